set_option maxRecDepth 100000
theorem dX1_init_0 : decode cX1_init 0 = .ok (.aload_n 0, 1) := by decide +kernel
theorem dX1_init_1 : decode cX1_init 1 = .ok (.invokespecial 1, 3) := by decide +kernel
theorem dX1_init_4 : decode cX1_init 4 = .ok (.aload_n 0, 1) := by decide +kernel
theorem dX1_init_5 : decode cX1_init 5 = .ok (.bipush 40, 2) := by decide +kernel
theorem dX1_init_7 : decode cX1_init 7 = .ok (.newarray .int, 2) := by decide +kernel
theorem dX1_init_9 : decode cX1_init 9 = .ok (.putfield 7, 3) := by decide +kernel
theorem dX1_init_12 : decode cX1_init 12 = .ok (.aload_n 0, 1) := by decide +kernel
theorem dX1_init_13 : decode cX1_init 13 = .ok (.bipush 40, 2) := by decide +kernel
theorem dX1_init_15 : decode cX1_init 15 = .ok (.newarray .int, 2) := by decide +kernel
theorem dX1_init_17 : decode cX1_init 17 = .ok (.putfield 13, 3) := by decide +kernel
theorem dX1_init_20 : decode cX1_init 20 = .ok (.aload_n 0, 1) := by decide +kernel
theorem dX1_init_21 : decode cX1_init 21 = .ok (.bipush 40, 2) := by decide +kernel
theorem dX1_init_23 : decode cX1_init 23 = .ok (.newarray .int, 2) := by decide +kernel
theorem dX1_init_25 : decode cX1_init 25 = .ok (.putfield 16, 3) := by decide +kernel
theorem dX1_init_28 : decode cX1_init 28 = .ok (.aload_n 0, 1) := by decide +kernel
theorem dX1_init_29 : decode cX1_init 29 = .ok (.bipush 40, 2) := by decide +kernel
theorem dX1_init_31 : decode cX1_init 31 = .ok (.newarray .boolean, 2) := by decide +kernel
theorem dX1_init_33 : decode cX1_init 33 = .ok (.putfield 19, 3) := by decide +kernel
theorem dX1_init_36 : decode cX1_init 36 = .ok (.aload_n 0, 1) := by decide +kernel
theorem dX1_init_37 : decode cX1_init 37 = .ok (.bipush 40, 2) := by decide +kernel
theorem dX1_init_39 : decode cX1_init 39 = .ok (.newarray .long, 2) := by decide +kernel
theorem dX1_init_41 : decode cX1_init 41 = .ok (.putfield 23, 3) := by decide +kernel
theorem dX1_init_44 : decode cX1_init 44 = .ok (.aload_n 0, 1) := by decide +kernel
theorem dX1_init_45 : decode cX1_init 45 = .ok (.sipush 6000, 3) := by decide +kernel
theorem dX1_init_48 : decode cX1_init 48 = .ok (.newarray .int, 2) := by decide +kernel
theorem dX1_init_50 : decode cX1_init 50 = .ok (.putfield 27, 3) := by decide +kernel
theorem dX1_init_53 : decode cX1_init 53 = .ok (.aload_n 0, 1) := by decide +kernel
theorem dX1_init_54 : decode cX1_init 54 = .ok (.sipush 6000, 3) := by decide +kernel
theorem dX1_init_57 : decode cX1_init 57 = .ok (.newarray .int, 2) := by decide +kernel
theorem dX1_init_59 : decode cX1_init 59 = .ok (.putfield 30, 3) := by decide +kernel
theorem dX1_init_62 : decode cX1_init 62 = .ok (.aload_n 0, 1) := by decide +kernel
theorem dX1_init_63 : decode cX1_init 63 = .ok (.ldc 33, 2) := by decide +kernel
theorem dX1_init_65 : decode cX1_init 65 = .ok (.newarray .int, 2) := by decide +kernel
theorem dX1_init_67 : decode cX1_init 67 = .ok (.putfield 34, 3) := by decide +kernel
theorem dX1_init_70 : decode cX1_init 70 = .ok (.aload_n 0, 1) := by decide +kernel
theorem dX1_init_71 : decode cX1_init 71 = .ok (.sipush 960, 3) := by decide +kernel
theorem dX1_init_74 : decode cX1_init 74 = .ok (.newarray .int, 2) := by decide +kernel
theorem dX1_init_76 : decode cX1_init 76 = .ok (.putfield 37, 3) := by decide +kernel
theorem dX1_init_79 : decode cX1_init 79 = .ok (.aload_n 0, 1) := by decide +kernel
theorem dX1_init_80 : decode cX1_init 80 = .ok (.bipush 16, 2) := by decide +kernel
theorem dX1_init_82 : decode cX1_init 82 = .ok (.newarray .int, 2) := by decide +kernel
theorem dX1_init_84 : decode cX1_init 84 = .ok (.putfield 40, 3) := by decide +kernel
theorem dX1_init_87 : decode cX1_init 87 = .ok (.aload_n 0, 1) := by decide +kernel
theorem dX1_init_88 : decode cX1_init 88 = .ok (.bipush 40, 2) := by decide +kernel
theorem dX1_init_90 : decode cX1_init 90 = .ok (.newarray .int, 2) := by decide +kernel
theorem dX1_init_92 : decode cX1_init 92 = .ok (.putfield 43, 3) := by decide +kernel
theorem dX1_init_95 : decode cX1_init 95 = .ok (.aload_n 0, 1) := by decide +kernel
theorem dX1_init_96 : decode cX1_init 96 = .ok (.bipush 40, 2) := by decide +kernel
theorem dX1_init_98 : decode cX1_init 98 = .ok (.newarray .int, 2) := by decide +kernel
theorem dX1_init_100 : decode cX1_init 100 = .ok (.putfield 46, 3) := by decide +kernel
theorem dX1_init_103 : decode cX1_init 103 = .ok (.aload_n 0, 1) := by decide +kernel
theorem dX1_init_104 : decode cX1_init 104 = .ok (.sipush 2400, 3) := by decide +kernel
theorem dX1_init_107 : decode cX1_init 107 = .ok (.newarray .int, 2) := by decide +kernel
theorem dX1_init_109 : decode cX1_init 109 = .ok (.putfield 49, 3) := by decide +kernel
theorem dX1_init_112 : decode cX1_init 112 = .ok (.aload_n 0, 1) := by decide +kernel
theorem dX1_init_113 : decode cX1_init 113 = .ok (.sipush 400, 3) := by decide +kernel
theorem dX1_init_116 : decode cX1_init 116 = .ok (.newarray .int, 2) := by decide +kernel
theorem dX1_init_118 : decode cX1_init 118 = .ok (.putfield 52, 3) := by decide +kernel
theorem dX1_init_121 : decode cX1_init 121 = .ok (.aload_n 0, 1) := by decide +kernel
theorem dX1_init_122 : decode cX1_init 122 = .ok (.sipush 400, 3) := by decide +kernel
theorem dX1_init_125 : decode cX1_init 125 = .ok (.newarray .int, 2) := by decide +kernel
theorem dX1_init_127 : decode cX1_init 127 = .ok (.putfield 55, 3) := by decide +kernel
theorem dX1_init_130 : decode cX1_init 130 = .ok (.aload_n 0, 1) := by decide +kernel
theorem dX1_init_131 : decode cX1_init 131 = .ok (.sipush 400, 3) := by decide +kernel
theorem dX1_init_134 : decode cX1_init 134 = .ok (.newarray .boolean, 2) := by decide +kernel
theorem dX1_init_136 : decode cX1_init 136 = .ok (.putfield 58, 3) := by decide +kernel
theorem dX1_init_139 : decode cX1_init 139 = .ok (.aload_n 0, 1) := by decide +kernel
theorem dX1_init_140 : decode cX1_init 140 = .ok (.sipush 400, 3) := by decide +kernel
theorem dX1_init_143 : decode cX1_init 143 = .ok (.newarray .boolean, 2) := by decide +kernel
theorem dX1_init_145 : decode cX1_init 145 = .ok (.putfield 61, 3) := by decide +kernel
theorem dX1_init_148 : decode cX1_init 148 = .ok (.aload_n 0, 1) := by decide +kernel
theorem dX1_init_149 : decode cX1_init 149 = .ok (.bipush 8, 2) := by decide +kernel
theorem dX1_init_151 : decode cX1_init 151 = .ok (.newarray .int, 2) := by decide +kernel
theorem dX1_init_153 : decode cX1_init 153 = .ok (.putfield 64, 3) := by decide +kernel
theorem dX1_init_156 : decode cX1_init 156 = .ok (.aload_n 0, 1) := by decide +kernel
theorem dX1_init_157 : decode cX1_init 157 = .ok (.bipush 8, 2) := by decide +kernel
theorem dX1_init_159 : decode cX1_init 159 = .ok (.newarray .int, 2) := by decide +kernel
theorem dX1_init_161 : decode cX1_init 161 = .ok (.putfield 67, 3) := by decide +kernel
theorem dX1_init_164 : decode cX1_init 164 = .ok (.aload_n 0, 1) := by decide +kernel
theorem dX1_init_165 : decode cX1_init 165 = .ok (.sipush 5120, 3) := by decide +kernel
theorem dX1_init_168 : decode cX1_init 168 = .ok (.newarray .int, 2) := by decide +kernel
theorem dX1_init_170 : decode cX1_init 170 = .ok (.putfield 70, 3) := by decide +kernel
theorem dX1_init_173 : decode cX1_init 173 = .ok (.aload_n 0, 1) := by decide +kernel
theorem dX1_init_174 : decode cX1_init 174 = .ok (.sipush 7200, 3) := by decide +kernel
theorem dX1_init_177 : decode cX1_init 177 = .ok (.newarray .int, 2) := by decide +kernel
theorem dX1_init_179 : decode cX1_init 179 = .ok (.putfield 73, 3) := by decide +kernel
theorem dX1_init_182 : decode cX1_init 182 = .ok (.aload_n 0, 1) := by decide +kernel
theorem dX1_init_183 : decode cX1_init 183 = .ok (.bipush 120, 2) := by decide +kernel
theorem dX1_init_185 : decode cX1_init 185 = .ok (.newarray .int, 2) := by decide +kernel
theorem dX1_init_187 : decode cX1_init 187 = .ok (.putfield 76, 3) := by decide +kernel
theorem dX1_init_190 : decode cX1_init 190 = .ok (.aload_n 0, 1) := by decide +kernel
theorem dX1_init_191 : decode cX1_init 191 = .ok (.bipush 120, 2) := by decide +kernel
theorem dX1_init_193 : decode cX1_init 193 = .ok (.newarray .int, 2) := by decide +kernel
theorem dX1_init_195 : decode cX1_init 195 = .ok (.putfield 79, 3) := by decide +kernel
theorem dX1_init_198 : decode cX1_init 198 = .ok (.aload_n 0, 1) := by decide +kernel
theorem dX1_init_199 : decode cX1_init 199 = .ok (.bipush 40, 2) := by decide +kernel
theorem dX1_init_201 : decode cX1_init 201 = .ok (.newarray .long, 2) := by decide +kernel
theorem dX1_init_203 : decode cX1_init 203 = .ok (.putfield 82, 3) := by decide +kernel
theorem dX1_init_206 : decode cX1_init 206 = .ok (.aload_n 0, 1) := by decide +kernel
theorem dX1_init_207 : decode cX1_init 207 = .ok (.bipush 40, 2) := by decide +kernel
theorem dX1_init_209 : decode cX1_init 209 = .ok (.newarray .long, 2) := by decide +kernel
theorem dX1_init_211 : decode cX1_init 211 = .ok (.putfield 85, 3) := by decide +kernel
theorem dX1_init_214 : decode cX1_init 214 = .ok (.aload_n 0, 1) := by decide +kernel
theorem dX1_init_215 : decode cX1_init 215 = .ok (.bipush 6, 2) := by decide +kernel
theorem dX1_init_217 : decode cX1_init 217 = .ok (.newarray .int, 2) := by decide +kernel
theorem dX1_init_219 : decode cX1_init 219 = .ok (.putfield 88, 3) := by decide +kernel
theorem dX1_init_222 : decode cX1_init 222 = .ok (.aload_n 0, 1) := by decide +kernel
theorem dX1_init_223 : decode cX1_init 223 = .ok (.bipush 6, 2) := by decide +kernel
theorem dX1_init_225 : decode cX1_init 225 = .ok (.newarray .int, 2) := by decide +kernel
theorem dX1_init_227 : decode cX1_init 227 = .ok (.putfield 91, 3) := by decide +kernel
theorem dX1_init_230 : decode cX1_init 230 = .ok (.aload_n 0, 1) := by decide +kernel
theorem dX1_init_231 : decode cX1_init 231 = .ok (.sipush 384, 3) := by decide +kernel
theorem dX1_init_234 : decode cX1_init 234 = .ok (.newarray .int, 2) := by decide +kernel
theorem dX1_init_236 : decode cX1_init 236 = .ok (.putfield 94, 3) := by decide +kernel
theorem dX1_init_239 : decode cX1_init 239 = .ok (.aload_n 0, 1) := by decide +kernel
theorem dX1_init_240 : decode cX1_init 240 = .ok (.sipush 384, 3) := by decide +kernel
theorem dX1_init_243 : decode cX1_init 243 = .ok (.newarray .int, 2) := by decide +kernel
theorem dX1_init_245 : decode cX1_init 245 = .ok (.putfield 97, 3) := by decide +kernel
theorem dX1_init_248 : decode cX1_init 248 = .ok (.aload_n 0, 1) := by decide +kernel
theorem dX1_init_249 : decode cX1_init 249 = .ok (.sipush 240, 3) := by decide +kernel
theorem dX1_init_252 : decode cX1_init 252 = .ok (.newarray .int, 2) := by decide +kernel
theorem dX1_init_254 : decode cX1_init 254 = .ok (.putfield 100, 3) := by decide +kernel
theorem dX1_init_257 : decode cX1_init 257 = .ok (.aload_n 0, 1) := by decide +kernel
theorem dX1_init_258 : decode cX1_init 258 = .ok (.bipush 64, 2) := by decide +kernel
theorem dX1_init_260 : decode cX1_init 260 = .ok (.newarray .int, 2) := by decide +kernel
theorem dX1_init_262 : decode cX1_init 262 = .ok (.putfield 103, 3) := by decide +kernel
theorem dX1_init_265 : decode cX1_init 265 = .ok (.aload_n 0, 1) := by decide +kernel
theorem dX1_init_266 : decode cX1_init 266 = .ok (.bipush 40, 2) := by decide +kernel
theorem dX1_init_268 : decode cX1_init 268 = .ok (.newarray .int, 2) := by decide +kernel
theorem dX1_init_270 : decode cX1_init 270 = .ok (.putfield 106, 3) := by decide +kernel
theorem dX1_init_273 : decode cX1_init 273 = .ok (.aload_n 0, 1) := by decide +kernel
theorem dX1_init_274 : decode cX1_init 274 = .ok (.bipush 64, 2) := by decide +kernel
theorem dX1_init_276 : decode cX1_init 276 = .ok (.newarray .int, 2) := by decide +kernel
theorem dX1_init_278 : decode cX1_init 278 = .ok (.putfield 109, 3) := by decide +kernel
theorem dX1_init_281 : decode cX1_init 281 = .ok (.aload_n 0, 1) := by decide +kernel
theorem dX1_init_282 : decode cX1_init 282 = .ok (.bipush 65, 2) := by decide +kernel
theorem dX1_init_284 : decode cX1_init 284 = .ok (.newarray .int, 2) := by decide +kernel
theorem dX1_init_286 : decode cX1_init 286 = .ok (.putfield 112, 3) := by decide +kernel
theorem dX1_init_289 : decode cX1_init 289 = .ok (.aload_n 0, 1) := by decide +kernel
theorem dX1_init_290 : decode cX1_init 290 = .ok (.bipush 65, 2) := by decide +kernel
theorem dX1_init_292 : decode cX1_init 292 = .ok (.newarray .int, 2) := by decide +kernel
theorem dX1_init_294 : decode cX1_init 294 = .ok (.putfield 115, 3) := by decide +kernel
theorem dX1_init_297 : decode cX1_init 297 = .ok (.return_, 1) := by decide +kernel
theorem dX1_kind_0 : decode cX1_kind 0 = .ok (.lload 5, 2) := by decide +kernel
theorem dX1_kind_2 : decode cX1_kind 2 = .ok (.invokestatic 124, 3) := by decide +kernel
theorem dX1_kind_5 : decode cX1_kind 5 = .ok (.lstore 7, 2) := by decide +kernel
theorem dX1_kind_7 : decode cX1_kind 7 = .ok (.iload_n 1, 1) := by decide +kernel
theorem dX1_kind_8 : decode cX1_kind 8 = .ok (.bipush 15, 2) := by decide +kernel
theorem dX1_kind_10 : decode cX1_kind 10 = .ok (.iand, 1) := by decide +kernel
theorem dX1_kind_11 : decode cX1_kind 11 = .ok (.istore 9, 2) := by decide +kernel
theorem dX1_kind_13 : decode cX1_kind 13 = .ok (.aload_n 0, 1) := by decide +kernel
theorem dX1_kind_14 : decode cX1_kind 14 = .ok (.getfield 128, 3) := by decide +kernel
theorem dX1_kind_17 : decode cX1_kind 17 = .ok (.bipush 40, 2) := by decide +kernel
theorem dX1_kind_19 : decode cX1_kind 19 = .ok (.if_icmp .ge 49, 3) := by decide +kernel
theorem dX1_kind_22 : decode cX1_kind 22 = .ok (.iload_n 1, 1) := by decide +kernel
theorem dX1_kind_23 : decode cX1_kind 23 = .ok (.ldc 132, 2) := by decide +kernel
theorem dX1_kind_25 : decode cX1_kind 25 = .ok (.iand, 1) := by decide +kernel
theorem dX1_kind_26 : decode cX1_kind 26 = .ok (.ifCond .ne 42, 3) := by decide +kernel
theorem dX1_kind_29 : decode cX1_kind 29 = .ok (.iload_n 2, 1) := by decide +kernel
theorem dX1_kind_30 : decode cX1_kind 30 = .ok (.iconst 1, 1) := by decide +kernel
theorem dX1_kind_31 : decode cX1_kind 31 = .ok (.if_icmp .eq 13, 3) := by decide +kernel
theorem dX1_kind_34 : decode cX1_kind 34 = .ok (.iload_n 2, 1) := by decide +kernel
theorem dX1_kind_35 : decode cX1_kind 35 = .ok (.iconst 2, 1) := by decide +kernel
theorem dX1_kind_36 : decode cX1_kind 36 = .ok (.if_icmp .eq 8, 3) := by decide +kernel
theorem dX1_kind_39 : decode cX1_kind 39 = .ok (.iload_n 2, 1) := by decide +kernel
theorem dX1_kind_40 : decode cX1_kind 40 = .ok (.iconst 4, 1) := by decide +kernel
theorem dX1_kind_41 : decode cX1_kind 41 = .ok (.if_icmp .ne 27, 3) := by decide +kernel
theorem dX1_kind_44 : decode cX1_kind 44 = .ok (.iload 4, 2) := by decide +kernel
theorem dX1_kind_46 : decode cX1_kind 46 = .ok (.ifCond .lt 22, 3) := by decide +kernel
theorem dX1_kind_49 : decode cX1_kind 49 = .ok (.iload 4, 2) := by decide +kernel
theorem dX1_kind_51 : decode cX1_kind 51 = .ok (.sipush 1000, 3) := by decide +kernel
theorem dX1_kind_54 : decode cX1_kind 54 = .ok (.if_icmp .gt 14, 3) := by decide +kernel
theorem dX1_kind_57 : decode cX1_kind 57 = .ok (.lload 7, 2) := by decide +kernel
theorem dX1_kind_59 : decode cX1_kind 59 = .ok (.lconst 0, 1) := by decide +kernel
theorem dX1_kind_60 : decode cX1_kind 60 = .ok (.lcmp, 1) := by decide +kernel
theorem dX1_kind_61 : decode cX1_kind 61 = .ok (.ifCond .eq 7, 3) := by decide +kernel
theorem dX1_kind_64 : decode cX1_kind 64 = .ok (.iconst 1, 1) := by decide +kernel
theorem dX1_kind_65 : decode cX1_kind 65 = .ok (.goto 4, 3) := by decide +kernel
theorem dX1_kind_68 : decode cX1_kind 68 = .ok (.iconst 0, 1) := by decide +kernel
theorem dX1_kind_69 : decode cX1_kind 69 = .ok (.istore 10, 2) := by decide +kernel
theorem dX1_kind_71 : decode cX1_kind 71 = .ok (.iload_n 2, 1) := by decide +kernel
theorem dX1_kind_72 : decode cX1_kind 72 = .ok (.iconst 1, 1) := by decide +kernel
theorem dX1_kind_73 : decode cX1_kind 73 = .ok (.if_icmp .ne 25, 3) := by decide +kernel
theorem dX1_kind_76 : decode cX1_kind 76 = .ok (.iload 10, 2) := by decide +kernel
theorem dX1_kind_78 : decode cX1_kind 78 = .ok (.ifCond .eq 17, 3) := by decide +kernel
theorem dX1_kind_81 : decode cX1_kind 81 = .ok (.iload_n 1, 1) := by decide +kernel
theorem dX1_kind_82 : decode cX1_kind 82 = .ok (.iload 9, 2) := by decide +kernel
theorem dX1_kind_84 : decode cX1_kind 84 = .ok (.sipush 4369, 3) := by decide +kernel
theorem dX1_kind_87 : decode cX1_kind 87 = .ok (.imul, 1) := by decide +kernel
theorem dX1_kind_88 : decode cX1_kind 88 = .ok (.if_icmp .ne 7, 3) := by decide +kernel
theorem dX1_kind_91 : decode cX1_kind 91 = .ok (.iconst 1, 1) := by decide +kernel
theorem dX1_kind_92 : decode cX1_kind 92 = .ok (.goto 4, 3) := by decide +kernel
theorem dX1_kind_95 : decode cX1_kind 95 = .ok (.iconst 0, 1) := by decide +kernel
theorem dX1_kind_96 : decode cX1_kind 96 = .ok (.istore 10, 2) := by decide +kernel
theorem dX1_kind_98 : decode cX1_kind 98 = .ok (.iload_n 2, 1) := by decide +kernel
theorem dX1_kind_99 : decode cX1_kind 99 = .ok (.iconst 2, 1) := by decide +kernel
theorem dX1_kind_100 : decode cX1_kind 100 = .ok (.if_icmp .ne 27, 3) := by decide +kernel
theorem dX1_kind_103 : decode cX1_kind 103 = .ok (.iload 10, 2) := by decide +kernel
theorem dX1_kind_105 : decode cX1_kind 105 = .ok (.ifCond .eq 19, 3) := by decide +kernel
theorem dX1_kind_108 : decode cX1_kind 108 = .ok (.iload_n 1, 1) := by decide +kernel
theorem dX1_kind_109 : decode cX1_kind 109 = .ok (.sipush 255, 3) := by decide +kernel
theorem dX1_kind_112 : decode cX1_kind 112 = .ok (.iand, 1) := by decide +kernel
theorem dX1_kind_113 : decode cX1_kind 113 = .ok (.iload_n 1, 1) := by decide +kernel
theorem dX1_kind_114 : decode cX1_kind 114 = .ok (.bipush 8, 2) := by decide +kernel
theorem dX1_kind_116 : decode cX1_kind 116 = .ok (.ishr, 1) := by decide +kernel
theorem dX1_kind_117 : decode cX1_kind 117 = .ok (.if_icmp .ne 7, 3) := by decide +kernel
theorem dX1_kind_120 : decode cX1_kind 120 = .ok (.iconst 1, 1) := by decide +kernel
theorem dX1_kind_121 : decode cX1_kind 121 = .ok (.goto 4, 3) := by decide +kernel
theorem dX1_kind_124 : decode cX1_kind 124 = .ok (.iconst 0, 1) := by decide +kernel
theorem dX1_kind_125 : decode cX1_kind 125 = .ok (.istore 10, 2) := by decide +kernel
theorem dX1_kind_127 : decode cX1_kind 127 = .ok (.iload 10, 2) := by decide +kernel
theorem dX1_kind_129 : decode cX1_kind 129 = .ok (.ifCond .eq 12, 3) := by decide +kernel
theorem dX1_kind_132 : decode cX1_kind 132 = .ok (.aload_n 0, 1) := by decide +kernel
theorem dX1_kind_133 : decode cX1_kind 133 = .ok (.lload 5, 2) := by decide +kernel
theorem dX1_kind_135 : decode cX1_kind 135 = .ok (.invokevirtual 133, 3) := by decide +kernel
theorem dX1_kind_138 : decode cX1_kind 138 = .ok (.ifCond .lt 5, 3) := by decide +kernel
theorem dX1_kind_141 : decode cX1_kind 141 = .ok (.iconst (-1), 1) := by decide +kernel
theorem dX1_kind_142 : decode cX1_kind 142 = .ok (.ireturn, 1) := by decide +kernel
theorem dX1_kind_143 : decode cX1_kind 143 = .ok (.aload_n 0, 1) := by decide +kernel
theorem dX1_kind_144 : decode cX1_kind 144 = .ok (.getfield 7, 3) := by decide +kernel
theorem dX1_kind_147 : decode cX1_kind 147 = .ok (.aload_n 0, 1) := by decide +kernel
theorem dX1_kind_148 : decode cX1_kind 148 = .ok (.getfield 128, 3) := by decide +kernel
theorem dX1_kind_151 : decode cX1_kind 151 = .ok (.iload_n 1, 1) := by decide +kernel
theorem dX1_kind_152 : decode cX1_kind 152 = .ok (.iastore, 1) := by decide +kernel
theorem dX1_kind_153 : decode cX1_kind 153 = .ok (.aload_n 0, 1) := by decide +kernel
theorem dX1_kind_154 : decode cX1_kind 154 = .ok (.getfield 13, 3) := by decide +kernel
theorem dX1_kind_157 : decode cX1_kind 157 = .ok (.aload_n 0, 1) := by decide +kernel
theorem dX1_kind_158 : decode cX1_kind 158 = .ok (.getfield 128, 3) := by decide +kernel
theorem dX1_kind_161 : decode cX1_kind 161 = .ok (.iload_n 2, 1) := by decide +kernel
theorem dX1_kind_162 : decode cX1_kind 162 = .ok (.iastore, 1) := by decide +kernel
theorem dX1_kind_163 : decode cX1_kind 163 = .ok (.aload_n 0, 1) := by decide +kernel
theorem dX1_kind_164 : decode cX1_kind 164 = .ok (.getfield 19, 3) := by decide +kernel
theorem dX1_kind_167 : decode cX1_kind 167 = .ok (.aload_n 0, 1) := by decide +kernel
theorem dX1_kind_168 : decode cX1_kind 168 = .ok (.getfield 128, 3) := by decide +kernel
theorem dX1_kind_171 : decode cX1_kind 171 = .ok (.iload_n 3, 1) := by decide +kernel
theorem dX1_kind_172 : decode cX1_kind 172 = .ok (.bastore, 1) := by decide +kernel
theorem dX1_kind_173 : decode cX1_kind 173 = .ok (.aload_n 0, 1) := by decide +kernel
theorem dX1_kind_174 : decode cX1_kind 174 = .ok (.getfield 16, 3) := by decide +kernel
theorem dX1_kind_177 : decode cX1_kind 177 = .ok (.aload_n 0, 1) := by decide +kernel
theorem dX1_kind_178 : decode cX1_kind 178 = .ok (.getfield 128, 3) := by decide +kernel
theorem dX1_kind_181 : decode cX1_kind 181 = .ok (.iload 4, 2) := by decide +kernel
theorem dX1_kind_183 : decode cX1_kind 183 = .ok (.iastore, 1) := by decide +kernel
theorem dX1_kind_184 : decode cX1_kind 184 = .ok (.aload_n 0, 1) := by decide +kernel
theorem dX1_kind_185 : decode cX1_kind 185 = .ok (.getfield 23, 3) := by decide +kernel
theorem dX1_kind_188 : decode cX1_kind 188 = .ok (.aload_n 0, 1) := by decide +kernel
theorem dX1_kind_189 : decode cX1_kind 189 = .ok (.getfield 128, 3) := by decide +kernel
theorem dX1_kind_192 : decode cX1_kind 192 = .ok (.lload 7, 2) := by decide +kernel
theorem dX1_kind_194 : decode cX1_kind 194 = .ok (.lastore, 1) := by decide +kernel
theorem dX1_kind_195 : decode cX1_kind 195 = .ok (.aload_n 0, 1) := by decide +kernel
theorem dX1_kind_196 : decode cX1_kind 196 = .ok (.dup, 1) := by decide +kernel
theorem dX1_kind_197 : decode cX1_kind 197 = .ok (.getfield 128, 3) := by decide +kernel
theorem dX1_kind_200 : decode cX1_kind 200 = .ok (.iconst 1, 1) := by decide +kernel
theorem dX1_kind_201 : decode cX1_kind 201 = .ok (.iadd, 1) := by decide +kernel
theorem dX1_kind_202 : decode cX1_kind 202 = .ok (.putfield 128, 3) := by decide +kernel
theorem dX1_kind_205 : decode cX1_kind 205 = .ok (.aload_n 0, 1) := by decide +kernel
theorem dX1_kind_206 : decode cX1_kind 206 = .ok (.getfield 128, 3) := by decide +kernel
theorem dX1_kind_209 : decode cX1_kind 209 = .ok (.iconst 1, 1) := by decide +kernel
theorem dX1_kind_210 : decode cX1_kind 210 = .ok (.isub, 1) := by decide +kernel
theorem dX1_kind_211 : decode cX1_kind 211 = .ok (.ireturn, 1) := by decide +kernel
theorem dX1_plain_0 : decode cX1_plain 0 = .ok (.lconst 0, 1) := by decide +kernel
theorem dX1_plain_1 : decode cX1_plain 1 = .ok (.lstore_n 2, 1) := by decide +kernel
theorem dX1_plain_2 : decode cX1_plain 2 = .ok (.bipush 56, 2) := by decide +kernel
theorem dX1_plain_4 : decode cX1_plain 4 = .ok (.istore 4, 2) := by decide +kernel
theorem dX1_plain_6 : decode cX1_plain 6 = .ok (.iload 4, 2) := by decide +kernel
theorem dX1_plain_8 : decode cX1_plain 8 = .ok (.ifCond .lt 57, 3) := by decide +kernel
theorem dX1_plain_11 : decode cX1_plain 11 = .ok (.lload_n 0, 1) := by decide +kernel
theorem dX1_plain_12 : decode cX1_plain 12 = .ok (.iload 4, 2) := by decide +kernel
theorem dX1_plain_14 : decode cX1_plain 14 = .ok (.lshr, 1) := by decide +kernel
theorem dX1_plain_15 : decode cX1_plain 15 = .ok (.ldc2_w 118, 3) := by decide +kernel
theorem dX1_plain_18 : decode cX1_plain 18 = .ok (.land, 1) := by decide +kernel
theorem dX1_plain_19 : decode cX1_plain 19 = .ok (.lstore 5, 2) := by decide +kernel
theorem dX1_plain_21 : decode cX1_plain 21 = .ok (.lload 5, 2) := by decide +kernel
theorem dX1_plain_23 : decode cX1_plain 23 = .ok (.lconst 0, 1) := by decide +kernel
theorem dX1_plain_24 : decode cX1_plain 24 = .ok (.lcmp, 1) := by decide +kernel
theorem dX1_plain_25 : decode cX1_plain 25 = .ok (.ifCond .ne 6, 3) := by decide +kernel
theorem dX1_plain_28 : decode cX1_plain 28 = .ok (.goto 31, 3) := by decide +kernel
theorem dX1_plain_31 : decode cX1_plain 31 = .ok (.lload 5, 2) := by decide +kernel
theorem dX1_plain_33 : decode cX1_plain 33 = .ok (.ldc2_w 120, 3) := by decide +kernel
theorem dX1_plain_36 : decode cX1_plain 36 = .ok (.lcmp, 1) := by decide +kernel
theorem dX1_plain_37 : decode cX1_plain 37 = .ok (.ifCond .lt 12, 3) := by decide +kernel
theorem dX1_plain_40 : decode cX1_plain 40 = .ok (.lload 5, 2) := by decide +kernel
theorem dX1_plain_42 : decode cX1_plain 42 = .ok (.ldc2_w 122, 3) := by decide +kernel
theorem dX1_plain_45 : decode cX1_plain 45 = .ok (.lcmp, 1) := by decide +kernel
theorem dX1_plain_46 : decode cX1_plain 46 = .ok (.ifCond .le 5, 3) := by decide +kernel
theorem dX1_plain_49 : decode cX1_plain 49 = .ok (.lconst 0, 1) := by decide +kernel
theorem dX1_plain_50 : decode cX1_plain 50 = .ok (.lreturn, 1) := by decide +kernel
theorem dX1_plain_51 : decode cX1_plain 51 = .ok (.lload_n 2, 1) := by decide +kernel
theorem dX1_plain_52 : decode cX1_plain 52 = .ok (.bipush 8, 2) := by decide +kernel
theorem dX1_plain_54 : decode cX1_plain 54 = .ok (.lshl, 1) := by decide +kernel
theorem dX1_plain_55 : decode cX1_plain 55 = .ok (.lload 5, 2) := by decide +kernel
theorem dX1_plain_57 : decode cX1_plain 57 = .ok (.lor, 1) := by decide +kernel
theorem dX1_plain_58 : decode cX1_plain 58 = .ok (.lstore_n 2, 1) := by decide +kernel
theorem dX1_plain_59 : decode cX1_plain 59 = .ok (.iinc 4 (-8), 3) := by decide +kernel
theorem dX1_plain_62 : decode cX1_plain 62 = .ok (.goto (-56), 3) := by decide +kernel
theorem dX1_plain_65 : decode cX1_plain 65 = .ok (.lload_n 2, 1) := by decide +kernel
theorem dX1_plain_66 : decode cX1_plain 66 = .ok (.lreturn, 1) := by decide +kernel
theorem dX1_named_0 : decode cX1_named 0 = .ok (.lload_n 1, 1) := by decide +kernel
theorem dX1_named_1 : decode cX1_named 1 = .ok (.invokestatic 124, 3) := by decide +kernel
theorem dX1_named_4 : decode cX1_named 4 = .ok (.lstore_n 3, 1) := by decide +kernel
theorem dX1_named_5 : decode cX1_named 5 = .ok (.iconst 0, 1) := by decide +kernel
theorem dX1_named_6 : decode cX1_named 6 = .ok (.istore 5, 2) := by decide +kernel
theorem dX1_named_8 : decode cX1_named 8 = .ok (.iload 5, 2) := by decide +kernel
theorem dX1_named_10 : decode cX1_named 10 = .ok (.aload_n 0, 1) := by decide +kernel
theorem dX1_named_11 : decode cX1_named 11 = .ok (.getfield 128, 3) := by decide +kernel
theorem dX1_named_14 : decode cX1_named 14 = .ok (.if_icmp .ge 30, 3) := by decide +kernel
theorem dX1_named_17 : decode cX1_named 17 = .ok (.lload_n 3, 1) := by decide +kernel
theorem dX1_named_18 : decode cX1_named 18 = .ok (.lconst 0, 1) := by decide +kernel
theorem dX1_named_19 : decode cX1_named 19 = .ok (.lcmp, 1) := by decide +kernel
theorem dX1_named_20 : decode cX1_named 20 = .ok (.ifCond .eq 24, 3) := by decide +kernel
theorem dX1_named_23 : decode cX1_named 23 = .ok (.aload_n 0, 1) := by decide +kernel
theorem dX1_named_24 : decode cX1_named 24 = .ok (.getfield 23, 3) := by decide +kernel
theorem dX1_named_27 : decode cX1_named 27 = .ok (.iload 5, 2) := by decide +kernel
theorem dX1_named_29 : decode cX1_named 29 = .ok (.laload, 1) := by decide +kernel
theorem dX1_named_30 : decode cX1_named 30 = .ok (.lload_n 3, 1) := by decide +kernel
theorem dX1_named_31 : decode cX1_named 31 = .ok (.lcmp, 1) := by decide +kernel
theorem dX1_named_32 : decode cX1_named 32 = .ok (.ifCond .ne 6, 3) := by decide +kernel
theorem dX1_named_35 : decode cX1_named 35 = .ok (.iload 5, 2) := by decide +kernel
theorem dX1_named_37 : decode cX1_named 37 = .ok (.ireturn, 1) := by decide +kernel
theorem dX1_named_38 : decode cX1_named 38 = .ok (.iinc 5 1, 3) := by decide +kernel
theorem dX1_named_41 : decode cX1_named 41 = .ok (.goto (-33), 3) := by decide +kernel
theorem dX1_named_44 : decode cX1_named 44 = .ok (.iconst (-1), 1) := by decide +kernel
theorem dX1_named_45 : decode cX1_named 45 = .ok (.ireturn, 1) := by decide +kernel
theorem dX1_then_0 : decode cX1_then 0 = .ok (.iload_n 1, 1) := by decide +kernel
theorem dX1_then_1 : decode cX1_then 1 = .ok (.invokestatic 137, 3) := by decide +kernel
theorem dX1_then_4 : decode cX1_then 4 = .ok (.ifCond .eq 18, 3) := by decide +kernel
theorem dX1_then_7 : decode cX1_then 7 = .ok (.iload_n 2, 1) := by decide +kernel
theorem dX1_then_8 : decode cX1_then 8 = .ok (.invokestatic 137, 3) := by decide +kernel
theorem dX1_then_11 : decode cX1_then 11 = .ok (.ifCond .eq 11, 3) := by decide +kernel
theorem dX1_then_14 : decode cX1_then 14 = .ok (.iload_n 1, 1) := by decide +kernel
theorem dX1_then_15 : decode cX1_then 15 = .ok (.iload_n 2, 1) := by decide +kernel
theorem dX1_then_16 : decode cX1_then 16 = .ok (.invokestatic 141, 3) := by decide +kernel
theorem dX1_then_19 : decode cX1_then 19 = .ok (.goto 4, 3) := by decide +kernel
theorem dX1_then_22 : decode cX1_then 22 = .ok (.iconst (-1), 1) := by decide +kernel
theorem dX1_then_23 : decode cX1_then 23 = .ok (.ireturn, 1) := by decide +kernel
theorem dX1_isMove_0 : decode cX1_isMove 0 = .ok (.iload_n 0, 1) := by decide +kernel
theorem dX1_isMove_1 : decode cX1_isMove 1 = .ok (.ifCond .lt 13, 3) := by decide +kernel
theorem dX1_isMove_4 : decode cX1_isMove 4 = .ok (.iload_n 0, 1) := by decide +kernel
theorem dX1_isMove_5 : decode cX1_isMove 5 = .ok (.bipush 8, 2) := by decide +kernel
theorem dX1_isMove_7 : decode cX1_isMove 7 = .ok (.if_icmp .ge 7, 3) := by decide +kernel
theorem dX1_isMove_10 : decode cX1_isMove 10 = .ok (.iconst 1, 1) := by decide +kernel
theorem dX1_isMove_11 : decode cX1_isMove 11 = .ok (.goto 4, 3) := by decide +kernel
theorem dX1_isMove_14 : decode cX1_isMove 14 = .ok (.iconst 0, 1) := by decide +kernel
theorem dX1_isMove_15 : decode cX1_isMove 15 = .ok (.ireturn, 1) := by decide +kernel
theorem dX1_thenMove_0 : decode cX1_thenMove 0 = .ok (.iload_n 0, 1) := by decide +kernel
theorem dX1_thenMove_1 : decode cX1_thenMove 1 = .ok (.iload_n 1, 1) := by decide +kernel
theorem dX1_thenMove_2 : decode cX1_thenMove 2 = .ok (.ixor, 1) := by decide +kernel
theorem dX1_thenMove_3 : decode cX1_thenMove 3 = .ok (.iconst 4, 1) := by decide +kernel
theorem dX1_thenMove_4 : decode cX1_thenMove 4 = .ok (.iand, 1) := by decide +kernel
theorem dX1_thenMove_5 : decode cX1_thenMove 5 = .ok (.iload_n 1, 1) := by decide +kernel
theorem dX1_thenMove_6 : decode cX1_thenMove 6 = .ok (.iload_n 1, 1) := by decide +kernel
theorem dX1_thenMove_7 : decode cX1_thenMove 7 = .ok (.iconst 4, 1) := by decide +kernel
theorem dX1_thenMove_8 : decode cX1_thenMove 8 = .ok (.iand, 1) := by decide +kernel
theorem dX1_thenMove_9 : decode cX1_thenMove 9 = .ok (.ifCond .ne 7, 3) := by decide +kernel
theorem dX1_thenMove_12 : decode cX1_thenMove 12 = .ok (.iload_n 0, 1) := by decide +kernel
theorem dX1_thenMove_13 : decode cX1_thenMove 13 = .ok (.goto 5, 3) := by decide +kernel
theorem dX1_thenMove_16 : decode cX1_thenMove 16 = .ok (.iload_n 0, 1) := by decide +kernel
theorem dX1_thenMove_17 : decode cX1_thenMove 17 = .ok (.ineg, 1) := by decide +kernel
theorem dX1_thenMove_18 : decode cX1_thenMove 18 = .ok (.iadd, 1) := by decide +kernel
theorem dX1_thenMove_19 : decode cX1_thenMove 19 = .ok (.iconst 3, 1) := by decide +kernel
theorem dX1_thenMove_20 : decode cX1_thenMove 20 = .ok (.iand, 1) := by decide +kernel
theorem dX1_thenMove_21 : decode cX1_thenMove 21 = .ok (.ior, 1) := by decide +kernel
theorem dX1_thenMove_22 : decode cX1_thenMove 22 = .ok (.ireturn, 1) := by decide +kernel
theorem dX1_edge_0 : decode cX1_edge 0 = .ok (.aload_n 0, 1) := by decide +kernel
theorem dX1_edge_1 : decode cX1_edge 1 = .ok (.iload_n 1, 1) := by decide +kernel
theorem dX1_edge_2 : decode cX1_edge 2 = .ok (.invokevirtual 145, 3) := by decide +kernel
theorem dX1_edge_5 : decode cX1_edge 5 = .ok (.ifCond .eq 19, 3) := by decide +kernel
theorem dX1_edge_8 : decode cX1_edge 8 = .ok (.iload_n 2, 1) := by decide +kernel
theorem dX1_edge_9 : decode cX1_edge 9 = .ok (.invokestatic 137, 3) := by decide +kernel
theorem dX1_edge_12 : decode cX1_edge 12 = .ok (.ifCond .eq 12, 3) := by decide +kernel
theorem dX1_edge_15 : decode cX1_edge 15 = .ok (.iload_n 3, 1) := by decide +kernel
theorem dX1_edge_16 : decode cX1_edge 16 = .ok (.ifCond .lt 8, 3) := by decide +kernel
theorem dX1_edge_19 : decode cX1_edge 19 = .ok (.iload_n 3, 1) := by decide +kernel
theorem dX1_edge_20 : decode cX1_edge 20 = .ok (.iconst 4, 1) := by decide +kernel
theorem dX1_edge_21 : decode cX1_edge 21 = .ok (.if_icmp .le 5, 3) := by decide +kernel
theorem dX1_edge_24 : decode cX1_edge 24 = .ok (.iconst (-1), 1) := by decide +kernel
theorem dX1_edge_25 : decode cX1_edge 25 = .ok (.ireturn, 1) := by decide +kernel
theorem dX1_edge_26 : decode cX1_edge 26 = .ok (.aload_n 0, 1) := by decide +kernel
theorem dX1_edge_27 : decode cX1_edge 27 = .ok (.iload_n 1, 1) := by decide +kernel
theorem dX1_edge_28 : decode cX1_edge 28 = .ok (.iload_n 2, 1) := by decide +kernel
theorem dX1_edge_29 : decode cX1_edge 29 = .ok (.invokevirtual 148, 3) := by decide +kernel
theorem dX1_edge_32 : decode cX1_edge 32 = .ok (.istore 4, 2) := by decide +kernel
theorem dX1_edge_34 : decode cX1_edge 34 = .ok (.iload_n 3, 1) := by decide +kernel
theorem dX1_edge_35 : decode cX1_edge 35 = .ok (.iconst 4, 1) := by decide +kernel
theorem dX1_edge_36 : decode cX1_edge 36 = .ok (.if_icmp .ne 8, 3) := by decide +kernel
theorem dX1_edge_39 : decode cX1_edge 39 = .ok (.iload 4, 2) := by decide +kernel
theorem dX1_edge_41 : decode cX1_edge 41 = .ok (.goto 11, 3) := by decide +kernel
theorem dX1_edge_44 : decode cX1_edge 44 = .ok (.aload_n 0, 1) := by decide +kernel
theorem dX1_edge_45 : decode cX1_edge 45 = .ok (.iload_n 1, 1) := by decide +kernel
theorem dX1_edge_46 : decode cX1_edge 46 = .ok (.iload 4, 2) := by decide +kernel
theorem dX1_edge_48 : decode cX1_edge 48 = .ok (.iload_n 3, 1) := by decide +kernel
theorem dX1_edge_49 : decode cX1_edge 49 = .ok (.invokevirtual 151, 3) := by decide +kernel
theorem dX1_edge_52 : decode cX1_edge 52 = .ok (.ireturn, 1) := by decide +kernel
theorem dX1_isKind_0 : decode cX1_isKind 0 = .ok (.iload_n 1, 1) := by decide +kernel
theorem dX1_isKind_1 : decode cX1_isKind 1 = .ok (.ifCond .lt 15, 3) := by decide +kernel
theorem dX1_isKind_4 : decode cX1_isKind 4 = .ok (.iload_n 1, 1) := by decide +kernel
theorem dX1_isKind_5 : decode cX1_isKind 5 = .ok (.aload_n 0, 1) := by decide +kernel
theorem dX1_isKind_6 : decode cX1_isKind 6 = .ok (.getfield 128, 3) := by decide +kernel
theorem dX1_isKind_9 : decode cX1_isKind 9 = .ok (.if_icmp .ge 7, 3) := by decide +kernel
theorem dX1_isKind_12 : decode cX1_isKind 12 = .ok (.iconst 1, 1) := by decide +kernel
theorem dX1_isKind_13 : decode cX1_isKind 13 = .ok (.goto 4, 3) := by decide +kernel
theorem dX1_isKind_16 : decode cX1_isKind 16 = .ok (.iconst 0, 1) := by decide +kernel
theorem dX1_isKind_17 : decode cX1_isKind 17 = .ok (.ireturn, 1) := by decide +kernel
theorem dX1_lies_0 : decode cX1_lies 0 = .ok (.aload_n 0, 1) := by decide +kernel
theorem dX1_lies_1 : decode cX1_lies 1 = .ok (.getfield 19, 3) := by decide +kernel
theorem dX1_lies_4 : decode cX1_lies 4 = .ok (.iload_n 1, 1) := by decide +kernel
theorem dX1_lies_5 : decode cX1_lies 5 = .ok (.baload, 1) := by decide +kernel
theorem dX1_lies_6 : decode cX1_lies 6 = .ok (.ifCond .eq 9, 3) := by decide +kernel
theorem dX1_lies_9 : decode cX1_lies 9 = .ok (.iload_n 2, 1) := by decide +kernel
theorem dX1_lies_10 : decode cX1_lies 10 = .ok (.iconst 4, 1) := by decide +kernel
theorem dX1_lies_11 : decode cX1_lies 11 = .ok (.iand, 1) := by decide +kernel
theorem dX1_lies_12 : decode cX1_lies 12 = .ok (.goto 4, 3) := by decide +kernel
theorem dX1_lies_15 : decode cX1_lies 15 = .ok (.iconst 0, 1) := by decide +kernel
theorem dX1_lies_16 : decode cX1_lies 16 = .ok (.iload_n 2, 1) := by decide +kernel
theorem dX1_lies_17 : decode cX1_lies 17 = .ok (.iconst 3, 1) := by decide +kernel
theorem dX1_lies_18 : decode cX1_lies 18 = .ok (.iand, 1) := by decide +kernel
theorem dX1_lies_19 : decode cX1_lies 19 = .ok (.aload_n 0, 1) := by decide +kernel
theorem dX1_lies_20 : decode cX1_lies 20 = .ok (.getfield 13, 3) := by decide +kernel
theorem dX1_lies_23 : decode cX1_lies 23 = .ok (.iload_n 1, 1) := by decide +kernel
theorem dX1_lies_24 : decode cX1_lies 24 = .ok (.iaload, 1) := by decide +kernel
theorem dX1_lies_25 : decode cX1_lies 25 = .ok (.irem, 1) := by decide +kernel
theorem dX1_lies_26 : decode cX1_lies 26 = .ok (.iadd, 1) := by decide +kernel
theorem dX1_lies_27 : decode cX1_lies 27 = .ok (.ireturn, 1) := by decide +kernel
theorem dX1_colour_0 : decode cX1_colour 0 = .ok (.iload_n 3, 1) := by decide +kernel
theorem dX1_colour_1 : decode cX1_colour 1 = .ok (.iload_n 2, 1) := by decide +kernel
theorem dX1_colour_2 : decode cX1_colour 2 = .ok (.isub, 1) := by decide +kernel
theorem dX1_colour_3 : decode cX1_colour 3 = .ok (.iconst 3, 1) := by decide +kernel
theorem dX1_colour_4 : decode cX1_colour 4 = .ok (.iand, 1) := by decide +kernel
theorem dX1_colour_5 : decode cX1_colour 5 = .ok (.istore 4, 2) := by decide +kernel
theorem dX1_colour_7 : decode cX1_colour 7 = .ok (.iload_n 2, 1) := by decide +kernel
theorem dX1_colour_8 : decode cX1_colour 8 = .ok (.iconst 4, 1) := by decide +kernel
theorem dX1_colour_9 : decode cX1_colour 9 = .ok (.iand, 1) := by decide +kernel
theorem dX1_colour_10 : decode cX1_colour 10 = .ok (.ifCond .eq 17, 3) := by decide +kernel
theorem dX1_colour_13 : decode cX1_colour 13 = .ok (.iload 4, 2) := by decide +kernel
theorem dX1_colour_15 : decode cX1_colour 15 = .ok (.iconst 1, 1) := by decide +kernel
theorem dX1_colour_16 : decode cX1_colour 16 = .ok (.iand, 1) := by decide +kernel
theorem dX1_colour_17 : decode cX1_colour 17 = .ok (.iconst 1, 1) := by decide +kernel
theorem dX1_colour_18 : decode cX1_colour 18 = .ok (.if_icmp .ne 9, 3) := by decide +kernel
theorem dX1_colour_21 : decode cX1_colour 21 = .ok (.iconst 4, 1) := by decide +kernel
theorem dX1_colour_22 : decode cX1_colour 22 = .ok (.iload 4, 2) := by decide +kernel
theorem dX1_colour_24 : decode cX1_colour 24 = .ok (.isub, 1) := by decide +kernel
theorem dX1_colour_25 : decode cX1_colour 25 = .ok (.istore 4, 2) := by decide +kernel
theorem dX1_colour_27 : decode cX1_colour 27 = .ok (.aload_n 0, 1) := by decide +kernel
theorem dX1_colour_28 : decode cX1_colour 28 = .ok (.getfield 7, 3) := by decide +kernel
theorem dX1_colour_31 : decode cX1_colour 31 = .ok (.iload_n 1, 1) := by decide +kernel
theorem dX1_colour_32 : decode cX1_colour 32 = .ok (.iaload, 1) := by decide +kernel
theorem dX1_colour_33 : decode cX1_colour 33 = .ok (.iconst 4, 1) := by decide +kernel
theorem dX1_colour_34 : decode cX1_colour 34 = .ok (.iload 4, 2) := by decide +kernel
theorem dX1_colour_36 : decode cX1_colour 36 = .ok (.imul, 1) := by decide +kernel
theorem dX1_colour_37 : decode cX1_colour 37 = .ok (.ishr, 1) := by decide +kernel
theorem dX1_colour_38 : decode cX1_colour 38 = .ok (.bipush 15, 2) := by decide +kernel
theorem dX1_colour_40 : decode cX1_colour 40 = .ok (.iand, 1) := by decide +kernel
theorem dX1_colour_41 : decode cX1_colour 41 = .ok (.ireturn, 1) := by decide +kernel
theorem dX1_undo_0 : decode cX1_undo 0 = .ok (.aload_n 0, 1) := by decide +kernel
theorem dX1_undo_1 : decode cX1_undo 1 = .ok (.getfield 184, 3) := by decide +kernel
theorem dX1_undo_4 : decode cX1_undo 4 = .ok (.ifCond .ne 5, 3) := by decide +kernel
theorem dX1_undo_7 : decode cX1_undo 7 = .ok (.iconst (-1), 1) := by decide +kernel
theorem dX1_undo_8 : decode cX1_undo 8 = .ok (.ireturn, 1) := by decide +kernel
theorem dX1_undo_9 : decode cX1_undo 9 = .ok (.aload_n 0, 1) := by decide +kernel
theorem dX1_undo_10 : decode cX1_undo 10 = .ok (.dup, 1) := by decide +kernel
theorem dX1_undo_11 : decode cX1_undo 11 = .ok (.getfield 184, 3) := by decide +kernel
theorem dX1_undo_14 : decode cX1_undo 14 = .ok (.iconst 1, 1) := by decide +kernel
theorem dX1_undo_15 : decode cX1_undo 15 = .ok (.isub, 1) := by decide +kernel
theorem dX1_undo_16 : decode cX1_undo 16 = .ok (.putfield 184, 3) := by decide +kernel
theorem dX1_undo_19 : decode cX1_undo 19 = .ok (.aload_n 0, 1) := by decide +kernel
theorem dX1_undo_20 : decode cX1_undo 20 = .ok (.aload_n 0, 1) := by decide +kernel
theorem dX1_undo_21 : decode cX1_undo 21 = .ok (.getfield 181, 3) := by decide +kernel
theorem dX1_undo_24 : decode cX1_undo 24 = .ok (.bipush 40, 2) := by decide +kernel
theorem dX1_undo_26 : decode cX1_undo 26 = .ok (.iadd, 1) := by decide +kernel
theorem dX1_undo_27 : decode cX1_undo 27 = .ok (.iconst 1, 1) := by decide +kernel
theorem dX1_undo_28 : decode cX1_undo 28 = .ok (.isub, 1) := by decide +kernel
theorem dX1_undo_29 : decode cX1_undo 29 = .ok (.bipush 40, 2) := by decide +kernel
theorem dX1_undo_31 : decode cX1_undo 31 = .ok (.irem, 1) := by decide +kernel
theorem dX1_undo_32 : decode cX1_undo 32 = .ok (.putfield 181, 3) := by decide +kernel
theorem dX1_undo_35 : decode cX1_undo 35 = .ok (.aload_n 0, 1) := by decide +kernel
theorem dX1_undo_36 : decode cX1_undo 36 = .ok (.getfield 43, 3) := by decide +kernel
theorem dX1_undo_39 : decode cX1_undo 39 = .ok (.aload_n 0, 1) := by decide +kernel
theorem dX1_undo_40 : decode cX1_undo 40 = .ok (.getfield 181, 3) := by decide +kernel
theorem dX1_undo_43 : decode cX1_undo 43 = .ok (.iaload, 1) := by decide +kernel
theorem dX1_undo_44 : decode cX1_undo 44 = .ok (.istore_n 1, 1) := by decide +kernel
theorem dX1_undo_45 : decode cX1_undo 45 = .ok (.aload_n 0, 1) := by decide +kernel
theorem dX1_undo_46 : decode cX1_undo 46 = .ok (.getfield 40, 3) := by decide +kernel
theorem dX1_undo_49 : decode cX1_undo 49 = .ok (.iload_n 1, 1) := by decide +kernel
theorem dX1_undo_50 : decode cX1_undo 50 = .ok (.aload_n 0, 1) := by decide +kernel
theorem dX1_undo_51 : decode cX1_undo 51 = .ok (.getfield 46, 3) := by decide +kernel
theorem dX1_undo_54 : decode cX1_undo 54 = .ok (.aload_n 0, 1) := by decide +kernel
theorem dX1_undo_55 : decode cX1_undo 55 = .ok (.getfield 181, 3) := by decide +kernel
theorem dX1_undo_58 : decode cX1_undo 58 = .ok (.iaload, 1) := by decide +kernel
theorem dX1_undo_59 : decode cX1_undo 59 = .ok (.iastore, 1) := by decide +kernel
theorem dX1_undo_60 : decode cX1_undo 60 = .ok (.iconst 0, 1) := by decide +kernel
theorem dX1_undo_61 : decode cX1_undo 61 = .ok (.istore_n 2, 1) := by decide +kernel
theorem dX1_undo_62 : decode cX1_undo 62 = .ok (.iload_n 2, 1) := by decide +kernel
theorem dX1_undo_63 : decode cX1_undo 63 = .ok (.aload_n 0, 1) := by decide +kernel
theorem dX1_undo_64 : decode cX1_undo 64 = .ok (.getfield 40, 3) := by decide +kernel
theorem dX1_undo_67 : decode cX1_undo 67 = .ok (.iload_n 1, 1) := by decide +kernel
theorem dX1_undo_68 : decode cX1_undo 68 = .ok (.iaload, 1) := by decide +kernel
theorem dX1_undo_69 : decode cX1_undo 69 = .ok (.if_icmp .ge 34, 3) := by decide +kernel
theorem dX1_undo_72 : decode cX1_undo 72 = .ok (.aload_n 0, 1) := by decide +kernel
theorem dX1_undo_73 : decode cX1_undo 73 = .ok (.getfield 37, 3) := by decide +kernel
theorem dX1_undo_76 : decode cX1_undo 76 = .ok (.bipush 60, 2) := by decide +kernel
theorem dX1_undo_78 : decode cX1_undo 78 = .ok (.iload_n 1, 1) := by decide +kernel
theorem dX1_undo_79 : decode cX1_undo 79 = .ok (.imul, 1) := by decide +kernel
theorem dX1_undo_80 : decode cX1_undo 80 = .ok (.iload_n 2, 1) := by decide +kernel
theorem dX1_undo_81 : decode cX1_undo 81 = .ok (.iadd, 1) := by decide +kernel
theorem dX1_undo_82 : decode cX1_undo 82 = .ok (.aload_n 0, 1) := by decide +kernel
theorem dX1_undo_83 : decode cX1_undo 83 = .ok (.getfield 49, 3) := by decide +kernel
theorem dX1_undo_86 : decode cX1_undo 86 = .ok (.bipush 60, 2) := by decide +kernel
theorem dX1_undo_88 : decode cX1_undo 88 = .ok (.aload_n 0, 1) := by decide +kernel
theorem dX1_undo_89 : decode cX1_undo 89 = .ok (.getfield 181, 3) := by decide +kernel
theorem dX1_undo_92 : decode cX1_undo 92 = .ok (.imul, 1) := by decide +kernel
theorem dX1_undo_93 : decode cX1_undo 93 = .ok (.iload_n 2, 1) := by decide +kernel
theorem dX1_undo_94 : decode cX1_undo 94 = .ok (.iadd, 1) := by decide +kernel
theorem dX1_undo_95 : decode cX1_undo 95 = .ok (.iaload, 1) := by decide +kernel
theorem dX1_undo_96 : decode cX1_undo 96 = .ok (.iastore, 1) := by decide +kernel
theorem dX1_undo_97 : decode cX1_undo 97 = .ok (.iinc 2 1, 3) := by decide +kernel
theorem dX1_undo_100 : decode cX1_undo 100 = .ok (.goto (-38), 3) := by decide +kernel
theorem dX1_undo_103 : decode cX1_undo 103 = .ok (.aload_n 0, 1) := by decide +kernel
theorem dX1_undo_104 : decode cX1_undo 104 = .ok (.getfield 184, 3) := by decide +kernel
theorem dX1_undo_107 : decode cX1_undo 107 = .ok (.ireturn, 1) := by decide +kernel
theorem dX1_pattern_0 : decode cX1_pattern 0 = .ok (.aload_n 0, 1) := by decide +kernel
theorem dX1_pattern_1 : decode cX1_pattern 1 = .ok (.getfield 169, 3) := by decide +kernel
theorem dX1_pattern_4 : decode cX1_pattern 4 = .ok (.bipush 16, 2) := by decide +kernel
theorem dX1_pattern_6 : decode cX1_pattern 6 = .ok (.if_icmp .ne 5, 3) := by decide +kernel
theorem dX1_pattern_9 : decode cX1_pattern 9 = .ok (.iconst (-1), 1) := by decide +kernel
theorem dX1_pattern_10 : decode cX1_pattern 10 = .ok (.ireturn, 1) := by decide +kernel
theorem dX1_pattern_11 : decode cX1_pattern 11 = .ok (.aload_n 0, 1) := by decide +kernel
theorem dX1_pattern_12 : decode cX1_pattern 12 = .ok (.getfield 40, 3) := by decide +kernel
theorem dX1_pattern_15 : decode cX1_pattern 15 = .ok (.aload_n 0, 1) := by decide +kernel
theorem dX1_pattern_16 : decode cX1_pattern 16 = .ok (.getfield 169, 3) := by decide +kernel
theorem dX1_pattern_19 : decode cX1_pattern 19 = .ok (.iconst 0, 1) := by decide +kernel
theorem dX1_pattern_20 : decode cX1_pattern 20 = .ok (.iastore, 1) := by decide +kernel
theorem dX1_pattern_21 : decode cX1_pattern 21 = .ok (.aload_n 0, 1) := by decide +kernel
theorem dX1_pattern_22 : decode cX1_pattern 22 = .ok (.dup, 1) := by decide +kernel
theorem dX1_pattern_23 : decode cX1_pattern 23 = .ok (.getfield 169, 3) := by decide +kernel
theorem dX1_pattern_26 : decode cX1_pattern 26 = .ok (.iconst 1, 1) := by decide +kernel
theorem dX1_pattern_27 : decode cX1_pattern 27 = .ok (.iadd, 1) := by decide +kernel
theorem dX1_pattern_28 : decode cX1_pattern 28 = .ok (.putfield 169, 3) := by decide +kernel
theorem dX1_pattern_31 : decode cX1_pattern 31 = .ok (.aload_n 0, 1) := by decide +kernel
theorem dX1_pattern_32 : decode cX1_pattern 32 = .ok (.getfield 169, 3) := by decide +kernel
theorem dX1_pattern_35 : decode cX1_pattern 35 = .ok (.iconst 1, 1) := by decide +kernel
theorem dX1_pattern_36 : decode cX1_pattern 36 = .ok (.isub, 1) := by decide +kernel
theorem dX1_pattern_37 : decode cX1_pattern 37 = .ok (.ireturn, 1) := by decide +kernel
theorem dX1_insert_0 : decode cX1_insert 0 = .ok (.aload_n 0, 1) := by decide +kernel
theorem dX1_insert_1 : decode cX1_insert 1 = .ok (.iload_n 1, 1) := by decide +kernel
theorem dX1_insert_2 : decode cX1_insert 2 = .ok (.invokevirtual 187, 3) := by decide +kernel
theorem dX1_insert_5 : decode cX1_insert 5 = .ok (.ifCond .eq 62, 3) := by decide +kernel
theorem dX1_insert_8 : decode cX1_insert 8 = .ok (.iload_n 2, 1) := by decide +kernel
theorem dX1_insert_9 : decode cX1_insert 9 = .ok (.ifCond .lt 58, 3) := by decide +kernel
theorem dX1_insert_12 : decode cX1_insert 12 = .ok (.iload_n 2, 1) := by decide +kernel
theorem dX1_insert_13 : decode cX1_insert 13 = .ok (.aload_n 0, 1) := by decide +kernel
theorem dX1_insert_14 : decode cX1_insert 14 = .ok (.getfield 40, 3) := by decide +kernel
theorem dX1_insert_17 : decode cX1_insert 17 = .ok (.iload_n 1, 1) := by decide +kernel
theorem dX1_insert_18 : decode cX1_insert 18 = .ok (.iaload, 1) := by decide +kernel
theorem dX1_insert_19 : decode cX1_insert 19 = .ok (.if_icmp .gt 48, 3) := by decide +kernel
theorem dX1_insert_22 : decode cX1_insert 22 = .ok (.aload_n 0, 1) := by decide +kernel
theorem dX1_insert_23 : decode cX1_insert 23 = .ok (.getfield 40, 3) := by decide +kernel
theorem dX1_insert_26 : decode cX1_insert 26 = .ok (.iload_n 1, 1) := by decide +kernel
theorem dX1_insert_27 : decode cX1_insert 27 = .ok (.iaload, 1) := by decide +kernel
theorem dX1_insert_28 : decode cX1_insert 28 = .ok (.bipush 60, 2) := by decide +kernel
theorem dX1_insert_30 : decode cX1_insert 30 = .ok (.if_icmp .eq 37, 3) := by decide +kernel
theorem dX1_insert_33 : decode cX1_insert 33 = .ok (.iload_n 3, 1) := by decide +kernel
theorem dX1_insert_34 : decode cX1_insert 34 = .ok (.ifCond .lt 33, 3) := by decide +kernel
theorem dX1_insert_37 : decode cX1_insert 37 = .ok (.iload_n 3, 1) := by decide +kernel
theorem dX1_insert_38 : decode cX1_insert 38 = .ok (.bipush 60, 2) := by decide +kernel
theorem dX1_insert_40 : decode cX1_insert 40 = .ok (.if_icmp .gt 27, 3) := by decide +kernel
theorem dX1_insert_43 : decode cX1_insert 43 = .ok (.iload 4, 2) := by decide +kernel
theorem dX1_insert_45 : decode cX1_insert 45 = .ok (.bipush (-30), 2) := by decide +kernel
theorem dX1_insert_47 : decode cX1_insert 47 = .ok (.if_icmp .lt 20, 3) := by decide +kernel
theorem dX1_insert_50 : decode cX1_insert 50 = .ok (.iload 4, 2) := by decide +kernel
theorem dX1_insert_52 : decode cX1_insert 52 = .ok (.bipush 30, 2) := by decide +kernel
theorem dX1_insert_54 : decode cX1_insert 54 = .ok (.if_icmp .gt 13, 3) := by decide +kernel
theorem dX1_insert_57 : decode cX1_insert 57 = .ok (.aload_n 0, 1) := by decide +kernel
theorem dX1_insert_58 : decode cX1_insert 58 = .ok (.getfield 172, 3) := by decide +kernel
theorem dX1_insert_61 : decode cX1_insert 61 = .ok (.sipush 6000, 3) := by decide +kernel
theorem dX1_insert_64 : decode cX1_insert 64 = .ok (.if_icmp .ne 5, 3) := by decide +kernel
theorem dX1_insert_67 : decode cX1_insert 67 = .ok (.iconst 0, 1) := by decide +kernel
theorem dX1_insert_68 : decode cX1_insert 68 = .ok (.ireturn, 1) := by decide +kernel
theorem dX1_insert_69 : decode cX1_insert 69 = .ok (.aload_n 0, 1) := by decide +kernel
theorem dX1_insert_70 : decode cX1_insert 70 = .ok (.iload_n 1, 1) := by decide +kernel
theorem dX1_insert_71 : decode cX1_insert 71 = .ok (.invokevirtual 190, 3) := by decide +kernel
theorem dX1_insert_74 : decode cX1_insert 74 = .ok (.aload_n 0, 1) := by decide +kernel
theorem dX1_insert_75 : decode cX1_insert 75 = .ok (.getfield 40, 3) := by decide +kernel
theorem dX1_insert_78 : decode cX1_insert 78 = .ok (.iload_n 1, 1) := by decide +kernel
theorem dX1_insert_79 : decode cX1_insert 79 = .ok (.iaload, 1) := by decide +kernel
theorem dX1_insert_80 : decode cX1_insert 80 = .ok (.istore 5, 2) := by decide +kernel
theorem dX1_insert_82 : decode cX1_insert 82 = .ok (.iload 5, 2) := by decide +kernel
theorem dX1_insert_84 : decode cX1_insert 84 = .ok (.iload_n 2, 1) := by decide +kernel
theorem dX1_insert_85 : decode cX1_insert 85 = .ok (.if_icmp .le 30, 3) := by decide +kernel
theorem dX1_insert_88 : decode cX1_insert 88 = .ok (.aload_n 0, 1) := by decide +kernel
theorem dX1_insert_89 : decode cX1_insert 89 = .ok (.getfield 37, 3) := by decide +kernel
theorem dX1_insert_92 : decode cX1_insert 92 = .ok (.bipush 60, 2) := by decide +kernel
theorem dX1_insert_94 : decode cX1_insert 94 = .ok (.iload_n 1, 1) := by decide +kernel
theorem dX1_insert_95 : decode cX1_insert 95 = .ok (.imul, 1) := by decide +kernel
theorem dX1_insert_96 : decode cX1_insert 96 = .ok (.iload 5, 2) := by decide +kernel
theorem dX1_insert_98 : decode cX1_insert 98 = .ok (.iadd, 1) := by decide +kernel
theorem dX1_insert_99 : decode cX1_insert 99 = .ok (.aload_n 0, 1) := by decide +kernel
theorem dX1_insert_100 : decode cX1_insert 100 = .ok (.iload_n 1, 1) := by decide +kernel
theorem dX1_insert_101 : decode cX1_insert 101 = .ok (.iload 5, 2) := by decide +kernel
theorem dX1_insert_103 : decode cX1_insert 103 = .ok (.iconst 1, 1) := by decide +kernel
theorem dX1_insert_104 : decode cX1_insert 104 = .ok (.isub, 1) := by decide +kernel
theorem dX1_insert_105 : decode cX1_insert 105 = .ok (.invokevirtual 175, 3) := by decide +kernel
theorem dX1_insert_108 : decode cX1_insert 108 = .ok (.iastore, 1) := by decide +kernel
theorem dX1_insert_109 : decode cX1_insert 109 = .ok (.iinc 5 (-1), 3) := by decide +kernel
theorem dX1_insert_112 : decode cX1_insert 112 = .ok (.goto (-30), 3) := by decide +kernel
theorem dX1_insert_115 : decode cX1_insert 115 = .ok (.aload_n 0, 1) := by decide +kernel
theorem dX1_insert_116 : decode cX1_insert 116 = .ok (.getfield 37, 3) := by decide +kernel
theorem dX1_insert_119 : decode cX1_insert 119 = .ok (.bipush 60, 2) := by decide +kernel
theorem dX1_insert_121 : decode cX1_insert 121 = .ok (.iload_n 1, 1) := by decide +kernel
theorem dX1_insert_122 : decode cX1_insert 122 = .ok (.imul, 1) := by decide +kernel
theorem dX1_insert_123 : decode cX1_insert 123 = .ok (.iload_n 2, 1) := by decide +kernel
theorem dX1_insert_124 : decode cX1_insert 124 = .ok (.iadd, 1) := by decide +kernel
theorem dX1_insert_125 : decode cX1_insert 125 = .ok (.aload_n 0, 1) := by decide +kernel
theorem dX1_insert_126 : decode cX1_insert 126 = .ok (.iload_n 3, 1) := by decide +kernel
theorem dX1_insert_127 : decode cX1_insert 127 = .ok (.iload 4, 2) := by decide +kernel
theorem dX1_insert_129 : decode cX1_insert 129 = .ok (.invokevirtual 194, 3) := by decide +kernel
theorem dX1_insert_132 : decode cX1_insert 132 = .ok (.iastore, 1) := by decide +kernel
theorem dX1_insert_133 : decode cX1_insert 133 = .ok (.aload_n 0, 1) := by decide +kernel
theorem dX1_insert_134 : decode cX1_insert 134 = .ok (.getfield 40, 3) := by decide +kernel
theorem dX1_insert_137 : decode cX1_insert 137 = .ok (.iload_n 1, 1) := by decide +kernel
theorem dX1_insert_138 : decode cX1_insert 138 = .ok (.dup2, 1) := by decide +kernel
theorem dX1_insert_139 : decode cX1_insert 139 = .ok (.iaload, 1) := by decide +kernel
theorem dX1_insert_140 : decode cX1_insert 140 = .ok (.iconst 1, 1) := by decide +kernel
theorem dX1_insert_141 : decode cX1_insert 141 = .ok (.iadd, 1) := by decide +kernel
theorem dX1_insert_142 : decode cX1_insert 142 = .ok (.iastore, 1) := by decide +kernel
theorem dX1_insert_143 : decode cX1_insert 143 = .ok (.iconst 1, 1) := by decide +kernel
theorem dX1_insert_144 : decode cX1_insert 144 = .ok (.ireturn, 1) := by decide +kernel
theorem dX1_isPattern_0 : decode cX1_isPattern 0 = .ok (.iload_n 1, 1) := by decide +kernel
theorem dX1_isPattern_1 : decode cX1_isPattern 1 = .ok (.ifCond .lt 15, 3) := by decide +kernel
theorem dX1_isPattern_4 : decode cX1_isPattern 4 = .ok (.iload_n 1, 1) := by decide +kernel
theorem dX1_isPattern_5 : decode cX1_isPattern 5 = .ok (.aload_n 0, 1) := by decide +kernel
theorem dX1_isPattern_6 : decode cX1_isPattern 6 = .ok (.getfield 169, 3) := by decide +kernel
theorem dX1_isPattern_9 : decode cX1_isPattern 9 = .ok (.if_icmp .ge 7, 3) := by decide +kernel
theorem dX1_isPattern_12 : decode cX1_isPattern 12 = .ok (.iconst 1, 1) := by decide +kernel
theorem dX1_isPattern_13 : decode cX1_isPattern 13 = .ok (.goto 4, 3) := by decide +kernel
theorem dX1_isPattern_16 : decode cX1_isPattern 16 = .ok (.iconst 0, 1) := by decide +kernel
theorem dX1_isPattern_17 : decode cX1_isPattern 17 = .ok (.ireturn, 1) := by decide +kernel
theorem dX1_keep_0 : decode cX1_keep 0 = .ok (.aload_n 0, 1) := by decide +kernel
theorem dX1_keep_1 : decode cX1_keep 1 = .ok (.getfield 43, 3) := by decide +kernel
theorem dX1_keep_4 : decode cX1_keep 4 = .ok (.aload_n 0, 1) := by decide +kernel
theorem dX1_keep_5 : decode cX1_keep 5 = .ok (.getfield 181, 3) := by decide +kernel
theorem dX1_keep_8 : decode cX1_keep 8 = .ok (.iload_n 1, 1) := by decide +kernel
theorem dX1_keep_9 : decode cX1_keep 9 = .ok (.iastore, 1) := by decide +kernel
theorem dX1_keep_10 : decode cX1_keep 10 = .ok (.aload_n 0, 1) := by decide +kernel
theorem dX1_keep_11 : decode cX1_keep 11 = .ok (.getfield 46, 3) := by decide +kernel
theorem dX1_keep_14 : decode cX1_keep 14 = .ok (.aload_n 0, 1) := by decide +kernel
theorem dX1_keep_15 : decode cX1_keep 15 = .ok (.getfield 181, 3) := by decide +kernel
theorem dX1_keep_18 : decode cX1_keep 18 = .ok (.aload_n 0, 1) := by decide +kernel
theorem dX1_keep_19 : decode cX1_keep 19 = .ok (.getfield 40, 3) := by decide +kernel
theorem dX1_keep_22 : decode cX1_keep 22 = .ok (.iload_n 1, 1) := by decide +kernel
theorem dX1_keep_23 : decode cX1_keep 23 = .ok (.iaload, 1) := by decide +kernel
theorem dX1_keep_24 : decode cX1_keep 24 = .ok (.iastore, 1) := by decide +kernel
theorem dX1_keep_25 : decode cX1_keep 25 = .ok (.iconst 0, 1) := by decide +kernel
theorem dX1_keep_26 : decode cX1_keep 26 = .ok (.istore_n 2, 1) := by decide +kernel
theorem dX1_keep_27 : decode cX1_keep 27 = .ok (.iload_n 2, 1) := by decide +kernel
theorem dX1_keep_28 : decode cX1_keep 28 = .ok (.aload_n 0, 1) := by decide +kernel
theorem dX1_keep_29 : decode cX1_keep 29 = .ok (.getfield 40, 3) := by decide +kernel
theorem dX1_keep_32 : decode cX1_keep 32 = .ok (.iload_n 1, 1) := by decide +kernel
theorem dX1_keep_33 : decode cX1_keep 33 = .ok (.iaload, 1) := by decide +kernel
theorem dX1_keep_34 : decode cX1_keep 34 = .ok (.if_icmp .ge 29, 3) := by decide +kernel
theorem dX1_keep_37 : decode cX1_keep 37 = .ok (.aload_n 0, 1) := by decide +kernel
theorem dX1_keep_38 : decode cX1_keep 38 = .ok (.getfield 49, 3) := by decide +kernel
theorem dX1_keep_41 : decode cX1_keep 41 = .ok (.bipush 60, 2) := by decide +kernel
theorem dX1_keep_43 : decode cX1_keep 43 = .ok (.aload_n 0, 1) := by decide +kernel
theorem dX1_keep_44 : decode cX1_keep 44 = .ok (.getfield 181, 3) := by decide +kernel
theorem dX1_keep_47 : decode cX1_keep 47 = .ok (.imul, 1) := by decide +kernel
theorem dX1_keep_48 : decode cX1_keep 48 = .ok (.iload_n 2, 1) := by decide +kernel
theorem dX1_keep_49 : decode cX1_keep 49 = .ok (.iadd, 1) := by decide +kernel
theorem dX1_keep_50 : decode cX1_keep 50 = .ok (.aload_n 0, 1) := by decide +kernel
theorem dX1_keep_51 : decode cX1_keep 51 = .ok (.iload_n 1, 1) := by decide +kernel
theorem dX1_keep_52 : decode cX1_keep 52 = .ok (.iload_n 2, 1) := by decide +kernel
theorem dX1_keep_53 : decode cX1_keep 53 = .ok (.invokevirtual 175, 3) := by decide +kernel
theorem dX1_keep_56 : decode cX1_keep 56 = .ok (.iastore, 1) := by decide +kernel
theorem dX1_keep_57 : decode cX1_keep 57 = .ok (.iinc 2 1, 3) := by decide +kernel
theorem dX1_keep_60 : decode cX1_keep 60 = .ok (.goto (-33), 3) := by decide +kernel
theorem dX1_keep_63 : decode cX1_keep 63 = .ok (.aload_n 0, 1) := by decide +kernel
theorem dX1_keep_64 : decode cX1_keep 64 = .ok (.aload_n 0, 1) := by decide +kernel
theorem dX1_keep_65 : decode cX1_keep 65 = .ok (.getfield 181, 3) := by decide +kernel
theorem dX1_keep_68 : decode cX1_keep 68 = .ok (.iconst 1, 1) := by decide +kernel
theorem dX1_keep_69 : decode cX1_keep 69 = .ok (.iadd, 1) := by decide +kernel
theorem dX1_keep_70 : decode cX1_keep 70 = .ok (.bipush 40, 2) := by decide +kernel
theorem dX1_keep_72 : decode cX1_keep 72 = .ok (.irem, 1) := by decide +kernel
theorem dX1_keep_73 : decode cX1_keep 73 = .ok (.putfield 181, 3) := by decide +kernel
theorem dX1_keep_76 : decode cX1_keep 76 = .ok (.aload_n 0, 1) := by decide +kernel
theorem dX1_keep_77 : decode cX1_keep 77 = .ok (.aload_n 0, 1) := by decide +kernel
theorem dX1_keep_78 : decode cX1_keep 78 = .ok (.getfield 184, 3) := by decide +kernel
theorem dX1_keep_81 : decode cX1_keep 81 = .ok (.bipush 40, 2) := by decide +kernel
theorem dX1_keep_83 : decode cX1_keep 83 = .ok (.if_icmp .ge 12, 3) := by decide +kernel
theorem dX1_keep_86 : decode cX1_keep 86 = .ok (.aload_n 0, 1) := by decide +kernel
theorem dX1_keep_87 : decode cX1_keep 87 = .ok (.getfield 184, 3) := by decide +kernel
theorem dX1_keep_90 : decode cX1_keep 90 = .ok (.iconst 1, 1) := by decide +kernel
theorem dX1_keep_91 : decode cX1_keep 91 = .ok (.iadd, 1) := by decide +kernel
theorem dX1_keep_92 : decode cX1_keep 92 = .ok (.goto 5, 3) := by decide +kernel
theorem dX1_keep_95 : decode cX1_keep 95 = .ok (.bipush 40, 2) := by decide +kernel
theorem dX1_keep_97 : decode cX1_keep 97 = .ok (.putfield 184, 3) := by decide +kernel
theorem dX1_keep_100 : decode cX1_keep 100 = .ok (.return_, 1) := by decide +kernel
theorem dX1_rowOf_0 : decode cX1_rowOf 0 = .ok (.aload_n 0, 1) := by decide +kernel
theorem dX1_rowOf_1 : decode cX1_rowOf 1 = .ok (.getfield 37, 3) := by decide +kernel
theorem dX1_rowOf_4 : decode cX1_rowOf 4 = .ok (.bipush 60, 2) := by decide +kernel
theorem dX1_rowOf_6 : decode cX1_rowOf 6 = .ok (.iload_n 1, 1) := by decide +kernel
theorem dX1_rowOf_7 : decode cX1_rowOf 7 = .ok (.imul, 1) := by decide +kernel
theorem dX1_rowOf_8 : decode cX1_rowOf 8 = .ok (.iload_n 2, 1) := by decide +kernel
theorem dX1_rowOf_9 : decode cX1_rowOf 9 = .ok (.iadd, 1) := by decide +kernel
theorem dX1_rowOf_10 : decode cX1_rowOf 10 = .ok (.iaload, 1) := by decide +kernel
theorem dX1_rowOf_11 : decode cX1_rowOf 11 = .ok (.ireturn, 1) := by decide +kernel
theorem dX1_newRow_0 : decode cX1_newRow 0 = .ok (.aload_n 0, 1) := by decide +kernel
theorem dX1_newRow_1 : decode cX1_newRow 1 = .ok (.getfield 27, 3) := by decide +kernel
theorem dX1_newRow_4 : decode cX1_newRow 4 = .ok (.aload_n 0, 1) := by decide +kernel
theorem dX1_newRow_5 : decode cX1_newRow 5 = .ok (.getfield 172, 3) := by decide +kernel
theorem dX1_newRow_8 : decode cX1_newRow 8 = .ok (.iload_n 1, 1) := by decide +kernel
theorem dX1_newRow_9 : decode cX1_newRow 9 = .ok (.iastore, 1) := by decide +kernel
theorem dX1_newRow_10 : decode cX1_newRow 10 = .ok (.aload_n 0, 1) := by decide +kernel
theorem dX1_newRow_11 : decode cX1_newRow 11 = .ok (.getfield 30, 3) := by decide +kernel
theorem dX1_newRow_14 : decode cX1_newRow 14 = .ok (.aload_n 0, 1) := by decide +kernel
theorem dX1_newRow_15 : decode cX1_newRow 15 = .ok (.getfield 172, 3) := by decide +kernel
theorem dX1_newRow_18 : decode cX1_newRow 18 = .ok (.iload_n 2, 1) := by decide +kernel
theorem dX1_newRow_19 : decode cX1_newRow 19 = .ok (.iastore, 1) := by decide +kernel
theorem dX1_newRow_20 : decode cX1_newRow 20 = .ok (.iconst 0, 1) := by decide +kernel
theorem dX1_newRow_21 : decode cX1_newRow 21 = .ok (.istore_n 3, 1) := by decide +kernel
theorem dX1_newRow_22 : decode cX1_newRow 22 = .ok (.iload_n 3, 1) := by decide +kernel
theorem dX1_newRow_23 : decode cX1_newRow 23 = .ok (.iload_n 1, 1) := by decide +kernel
theorem dX1_newRow_24 : decode cX1_newRow 24 = .ok (.if_icmp .ge 24, 3) := by decide +kernel
theorem dX1_newRow_27 : decode cX1_newRow 27 = .ok (.aload_n 0, 1) := by decide +kernel
theorem dX1_newRow_28 : decode cX1_newRow 28 = .ok (.getfield 34, 3) := by decide +kernel
theorem dX1_newRow_31 : decode cX1_newRow 31 = .ok (.bipush 60, 2) := by decide +kernel
theorem dX1_newRow_33 : decode cX1_newRow 33 = .ok (.aload_n 0, 1) := by decide +kernel
theorem dX1_newRow_34 : decode cX1_newRow 34 = .ok (.getfield 172, 3) := by decide +kernel
theorem dX1_newRow_37 : decode cX1_newRow 37 = .ok (.imul, 1) := by decide +kernel
theorem dX1_newRow_38 : decode cX1_newRow 38 = .ok (.iload_n 3, 1) := by decide +kernel
theorem dX1_newRow_39 : decode cX1_newRow 39 = .ok (.iadd, 1) := by decide +kernel
theorem dX1_newRow_40 : decode cX1_newRow 40 = .ok (.iconst 0, 1) := by decide +kernel
theorem dX1_newRow_41 : decode cX1_newRow 41 = .ok (.iastore, 1) := by decide +kernel
theorem dX1_newRow_42 : decode cX1_newRow 42 = .ok (.iinc 3 1, 3) := by decide +kernel
theorem dX1_newRow_45 : decode cX1_newRow 45 = .ok (.goto (-23), 3) := by decide +kernel
theorem dX1_newRow_48 : decode cX1_newRow 48 = .ok (.aload_n 0, 1) := by decide +kernel
theorem dX1_newRow_49 : decode cX1_newRow 49 = .ok (.dup, 1) := by decide +kernel
theorem dX1_newRow_50 : decode cX1_newRow 50 = .ok (.getfield 172, 3) := by decide +kernel
theorem dX1_newRow_53 : decode cX1_newRow 53 = .ok (.iconst 1, 1) := by decide +kernel
theorem dX1_newRow_54 : decode cX1_newRow 54 = .ok (.iadd, 1) := by decide +kernel
theorem dX1_newRow_55 : decode cX1_newRow 55 = .ok (.putfield 172, 3) := by decide +kernel
theorem dX1_newRow_58 : decode cX1_newRow 58 = .ok (.aload_n 0, 1) := by decide +kernel
theorem dX1_newRow_59 : decode cX1_newRow 59 = .ok (.getfield 172, 3) := by decide +kernel
theorem dX1_newRow_62 : decode cX1_newRow 62 = .ok (.iconst 1, 1) := by decide +kernel
theorem dX1_newRow_63 : decode cX1_newRow 63 = .ok (.isub, 1) := by decide +kernel
theorem dX1_newRow_64 : decode cX1_newRow 64 = .ok (.ireturn, 1) := by decide +kernel
theorem dX1_remove_0 : decode cX1_remove 0 = .ok (.aload_n 0, 1) := by decide +kernel
theorem dX1_remove_1 : decode cX1_remove 1 = .ok (.iload_n 1, 1) := by decide +kernel
theorem dX1_remove_2 : decode cX1_remove 2 = .ok (.invokevirtual 187, 3) := by decide +kernel
theorem dX1_remove_5 : decode cX1_remove 5 = .ok (.ifCond .eq 17, 3) := by decide +kernel
theorem dX1_remove_8 : decode cX1_remove 8 = .ok (.iload_n 2, 1) := by decide +kernel
theorem dX1_remove_9 : decode cX1_remove 9 = .ok (.ifCond .lt 13, 3) := by decide +kernel
theorem dX1_remove_12 : decode cX1_remove 12 = .ok (.iload_n 2, 1) := by decide +kernel
theorem dX1_remove_13 : decode cX1_remove 13 = .ok (.aload_n 0, 1) := by decide +kernel
theorem dX1_remove_14 : decode cX1_remove 14 = .ok (.getfield 40, 3) := by decide +kernel
theorem dX1_remove_17 : decode cX1_remove 17 = .ok (.iload_n 1, 1) := by decide +kernel
theorem dX1_remove_18 : decode cX1_remove 18 = .ok (.iaload, 1) := by decide +kernel
theorem dX1_remove_19 : decode cX1_remove 19 = .ok (.if_icmp .lt 5, 3) := by decide +kernel
theorem dX1_remove_22 : decode cX1_remove 22 = .ok (.iconst 0, 1) := by decide +kernel
theorem dX1_remove_23 : decode cX1_remove 23 = .ok (.ireturn, 1) := by decide +kernel
theorem dX1_remove_24 : decode cX1_remove 24 = .ok (.aload_n 0, 1) := by decide +kernel
theorem dX1_remove_25 : decode cX1_remove 25 = .ok (.iload_n 1, 1) := by decide +kernel
theorem dX1_remove_26 : decode cX1_remove 26 = .ok (.invokevirtual 190, 3) := by decide +kernel
theorem dX1_remove_29 : decode cX1_remove 29 = .ok (.aload_n 0, 1) := by decide +kernel
theorem dX1_remove_30 : decode cX1_remove 30 = .ok (.iload_n 1, 1) := by decide +kernel
theorem dX1_remove_31 : decode cX1_remove 31 = .ok (.iload_n 2, 1) := by decide +kernel
theorem dX1_remove_32 : decode cX1_remove 32 = .ok (.invokevirtual 197, 3) := by decide +kernel
theorem dX1_remove_35 : decode cX1_remove 35 = .ok (.iconst 1, 1) := by decide +kernel
theorem dX1_remove_36 : decode cX1_remove 36 = .ok (.ireturn, 1) := by decide +kernel
theorem dX1_takeRow_0 : decode cX1_takeRow 0 = .ok (.iload_n 2, 1) := by decide +kernel
theorem dX1_takeRow_1 : decode cX1_takeRow 1 = .ok (.istore_n 3, 1) := by decide +kernel
theorem dX1_takeRow_2 : decode cX1_takeRow 2 = .ok (.iload_n 3, 1) := by decide +kernel
theorem dX1_takeRow_3 : decode cX1_takeRow 3 = .ok (.iconst 1, 1) := by decide +kernel
theorem dX1_takeRow_4 : decode cX1_takeRow 4 = .ok (.iadd, 1) := by decide +kernel
theorem dX1_takeRow_5 : decode cX1_takeRow 5 = .ok (.aload_n 0, 1) := by decide +kernel
theorem dX1_takeRow_6 : decode cX1_takeRow 6 = .ok (.getfield 40, 3) := by decide +kernel
theorem dX1_takeRow_9 : decode cX1_takeRow 9 = .ok (.iload_n 1, 1) := by decide +kernel
theorem dX1_takeRow_10 : decode cX1_takeRow 10 = .ok (.iaload, 1) := by decide +kernel
theorem dX1_takeRow_11 : decode cX1_takeRow 11 = .ok (.if_icmp .ge 28, 3) := by decide +kernel
theorem dX1_takeRow_14 : decode cX1_takeRow 14 = .ok (.aload_n 0, 1) := by decide +kernel
theorem dX1_takeRow_15 : decode cX1_takeRow 15 = .ok (.getfield 37, 3) := by decide +kernel
theorem dX1_takeRow_18 : decode cX1_takeRow 18 = .ok (.bipush 60, 2) := by decide +kernel
theorem dX1_takeRow_20 : decode cX1_takeRow 20 = .ok (.iload_n 1, 1) := by decide +kernel
theorem dX1_takeRow_21 : decode cX1_takeRow 21 = .ok (.imul, 1) := by decide +kernel
theorem dX1_takeRow_22 : decode cX1_takeRow 22 = .ok (.iload_n 3, 1) := by decide +kernel
theorem dX1_takeRow_23 : decode cX1_takeRow 23 = .ok (.iadd, 1) := by decide +kernel
theorem dX1_takeRow_24 : decode cX1_takeRow 24 = .ok (.aload_n 0, 1) := by decide +kernel
theorem dX1_takeRow_25 : decode cX1_takeRow 25 = .ok (.iload_n 1, 1) := by decide +kernel
theorem dX1_takeRow_26 : decode cX1_takeRow 26 = .ok (.iload_n 3, 1) := by decide +kernel
theorem dX1_takeRow_27 : decode cX1_takeRow 27 = .ok (.iconst 1, 1) := by decide +kernel
theorem dX1_takeRow_28 : decode cX1_takeRow 28 = .ok (.iadd, 1) := by decide +kernel
theorem dX1_takeRow_29 : decode cX1_takeRow 29 = .ok (.invokevirtual 175, 3) := by decide +kernel
theorem dX1_takeRow_32 : decode cX1_takeRow 32 = .ok (.iastore, 1) := by decide +kernel
theorem dX1_takeRow_33 : decode cX1_takeRow 33 = .ok (.iinc 3 1, 3) := by decide +kernel
theorem dX1_takeRow_36 : decode cX1_takeRow 36 = .ok (.goto (-34), 3) := by decide +kernel
theorem dX1_takeRow_39 : decode cX1_takeRow 39 = .ok (.aload_n 0, 1) := by decide +kernel
theorem dX1_takeRow_40 : decode cX1_takeRow 40 = .ok (.getfield 40, 3) := by decide +kernel
theorem dX1_takeRow_43 : decode cX1_takeRow 43 = .ok (.iload_n 1, 1) := by decide +kernel
theorem dX1_takeRow_44 : decode cX1_takeRow 44 = .ok (.dup2, 1) := by decide +kernel
theorem dX1_takeRow_45 : decode cX1_takeRow 45 = .ok (.iaload, 1) := by decide +kernel
theorem dX1_takeRow_46 : decode cX1_takeRow 46 = .ok (.iconst 1, 1) := by decide +kernel
theorem dX1_takeRow_47 : decode cX1_takeRow 47 = .ok (.isub, 1) := by decide +kernel
theorem dX1_takeRow_48 : decode cX1_takeRow 48 = .ok (.iastore, 1) := by decide +kernel
theorem dX1_takeRow_49 : decode cX1_takeRow 49 = .ok (.return_, 1) := by decide +kernel
theorem dX1_move_0 : decode cX1_move 0 = .ok (.aload_n 0, 1) := by decide +kernel
theorem dX1_move_1 : decode cX1_move 1 = .ok (.iload_n 1, 1) := by decide +kernel
theorem dX1_move_2 : decode cX1_move 2 = .ok (.invokevirtual 187, 3) := by decide +kernel
theorem dX1_move_5 : decode cX1_move 5 = .ok (.ifCond .eq 31, 3) := by decide +kernel
theorem dX1_move_8 : decode cX1_move 8 = .ok (.iload_n 2, 1) := by decide +kernel
theorem dX1_move_9 : decode cX1_move 9 = .ok (.ifCond .lt 27, 3) := by decide +kernel
theorem dX1_move_12 : decode cX1_move 12 = .ok (.iload_n 2, 1) := by decide +kernel
theorem dX1_move_13 : decode cX1_move 13 = .ok (.aload_n 0, 1) := by decide +kernel
theorem dX1_move_14 : decode cX1_move 14 = .ok (.getfield 40, 3) := by decide +kernel
theorem dX1_move_17 : decode cX1_move 17 = .ok (.iload_n 1, 1) := by decide +kernel
theorem dX1_move_18 : decode cX1_move 18 = .ok (.iaload, 1) := by decide +kernel
theorem dX1_move_19 : decode cX1_move 19 = .ok (.if_icmp .ge 17, 3) := by decide +kernel
theorem dX1_move_22 : decode cX1_move 22 = .ok (.iload_n 3, 1) := by decide +kernel
theorem dX1_move_23 : decode cX1_move 23 = .ok (.ifCond .lt 13, 3) := by decide +kernel
theorem dX1_move_26 : decode cX1_move 26 = .ok (.iload_n 3, 1) := by decide +kernel
theorem dX1_move_27 : decode cX1_move 27 = .ok (.aload_n 0, 1) := by decide +kernel
theorem dX1_move_28 : decode cX1_move 28 = .ok (.getfield 40, 3) := by decide +kernel
theorem dX1_move_31 : decode cX1_move 31 = .ok (.iload_n 1, 1) := by decide +kernel
theorem dX1_move_32 : decode cX1_move 32 = .ok (.iaload, 1) := by decide +kernel
theorem dX1_move_33 : decode cX1_move 33 = .ok (.if_icmp .lt 5, 3) := by decide +kernel
theorem dX1_move_36 : decode cX1_move 36 = .ok (.iconst 0, 1) := by decide +kernel
theorem dX1_move_37 : decode cX1_move 37 = .ok (.ireturn, 1) := by decide +kernel
theorem dX1_move_38 : decode cX1_move 38 = .ok (.aload_n 0, 1) := by decide +kernel
theorem dX1_move_39 : decode cX1_move 39 = .ok (.iload_n 1, 1) := by decide +kernel
theorem dX1_move_40 : decode cX1_move 40 = .ok (.invokevirtual 190, 3) := by decide +kernel
theorem dX1_move_43 : decode cX1_move 43 = .ok (.aload_n 0, 1) := by decide +kernel
theorem dX1_move_44 : decode cX1_move 44 = .ok (.iload_n 1, 1) := by decide +kernel
theorem dX1_move_45 : decode cX1_move 45 = .ok (.iload_n 2, 1) := by decide +kernel
theorem dX1_move_46 : decode cX1_move 46 = .ok (.invokevirtual 175, 3) := by decide +kernel
theorem dX1_move_49 : decode cX1_move 49 = .ok (.istore 4, 2) := by decide +kernel
theorem dX1_move_51 : decode cX1_move 51 = .ok (.aload_n 0, 1) := by decide +kernel
theorem dX1_move_52 : decode cX1_move 52 = .ok (.iload_n 1, 1) := by decide +kernel
theorem dX1_move_53 : decode cX1_move 53 = .ok (.iload_n 2, 1) := by decide +kernel
theorem dX1_move_54 : decode cX1_move 54 = .ok (.invokevirtual 197, 3) := by decide +kernel
theorem dX1_move_57 : decode cX1_move 57 = .ok (.aload_n 0, 1) := by decide +kernel
theorem dX1_move_58 : decode cX1_move 58 = .ok (.getfield 40, 3) := by decide +kernel
theorem dX1_move_61 : decode cX1_move 61 = .ok (.iload_n 1, 1) := by decide +kernel
theorem dX1_move_62 : decode cX1_move 62 = .ok (.iaload, 1) := by decide +kernel
theorem dX1_move_63 : decode cX1_move 63 = .ok (.istore 5, 2) := by decide +kernel
theorem dX1_move_65 : decode cX1_move 65 = .ok (.iload 5, 2) := by decide +kernel
theorem dX1_move_67 : decode cX1_move 67 = .ok (.iload_n 3, 1) := by decide +kernel
theorem dX1_move_68 : decode cX1_move 68 = .ok (.if_icmp .le 30, 3) := by decide +kernel
theorem dX1_move_71 : decode cX1_move 71 = .ok (.aload_n 0, 1) := by decide +kernel
theorem dX1_move_72 : decode cX1_move 72 = .ok (.getfield 37, 3) := by decide +kernel
theorem dX1_move_75 : decode cX1_move 75 = .ok (.bipush 60, 2) := by decide +kernel
theorem dX1_move_77 : decode cX1_move 77 = .ok (.iload_n 1, 1) := by decide +kernel
theorem dX1_move_78 : decode cX1_move 78 = .ok (.imul, 1) := by decide +kernel
theorem dX1_move_79 : decode cX1_move 79 = .ok (.iload 5, 2) := by decide +kernel
theorem dX1_move_81 : decode cX1_move 81 = .ok (.iadd, 1) := by decide +kernel
theorem dX1_move_82 : decode cX1_move 82 = .ok (.aload_n 0, 1) := by decide +kernel
theorem dX1_move_83 : decode cX1_move 83 = .ok (.iload_n 1, 1) := by decide +kernel
theorem dX1_move_84 : decode cX1_move 84 = .ok (.iload 5, 2) := by decide +kernel
theorem dX1_move_86 : decode cX1_move 86 = .ok (.iconst 1, 1) := by decide +kernel
theorem dX1_move_87 : decode cX1_move 87 = .ok (.isub, 1) := by decide +kernel
theorem dX1_move_88 : decode cX1_move 88 = .ok (.invokevirtual 175, 3) := by decide +kernel
theorem dX1_move_91 : decode cX1_move 91 = .ok (.iastore, 1) := by decide +kernel
theorem dX1_move_92 : decode cX1_move 92 = .ok (.iinc 5 (-1), 3) := by decide +kernel
theorem dX1_move_95 : decode cX1_move 95 = .ok (.goto (-30), 3) := by decide +kernel
theorem dX1_move_98 : decode cX1_move 98 = .ok (.aload_n 0, 1) := by decide +kernel
theorem dX1_move_99 : decode cX1_move 99 = .ok (.getfield 37, 3) := by decide +kernel
theorem dX1_move_102 : decode cX1_move 102 = .ok (.bipush 60, 2) := by decide +kernel
theorem dX1_move_104 : decode cX1_move 104 = .ok (.iload_n 1, 1) := by decide +kernel
theorem dX1_move_105 : decode cX1_move 105 = .ok (.imul, 1) := by decide +kernel
theorem dX1_move_106 : decode cX1_move 106 = .ok (.iload_n 3, 1) := by decide +kernel
theorem dX1_move_107 : decode cX1_move 107 = .ok (.iadd, 1) := by decide +kernel
theorem dX1_move_108 : decode cX1_move 108 = .ok (.iload 4, 2) := by decide +kernel
theorem dX1_move_110 : decode cX1_move 110 = .ok (.iastore, 1) := by decide +kernel
theorem dX1_move_111 : decode cX1_move 111 = .ok (.aload_n 0, 1) := by decide +kernel
theorem dX1_move_112 : decode cX1_move 112 = .ok (.getfield 40, 3) := by decide +kernel
theorem dX1_move_115 : decode cX1_move 115 = .ok (.iload_n 1, 1) := by decide +kernel
theorem dX1_move_116 : decode cX1_move 116 = .ok (.dup2, 1) := by decide +kernel
theorem dX1_move_117 : decode cX1_move 117 = .ok (.iaload, 1) := by decide +kernel
theorem dX1_move_118 : decode cX1_move 118 = .ok (.iconst 1, 1) := by decide +kernel
theorem dX1_move_119 : decode cX1_move 119 = .ok (.iadd, 1) := by decide +kernel
theorem dX1_move_120 : decode cX1_move 120 = .ok (.iastore, 1) := by decide +kernel
theorem dX1_move_121 : decode cX1_move 121 = .ok (.iconst 1, 1) := by decide +kernel
theorem dX1_move_122 : decode cX1_move 122 = .ok (.ireturn, 1) := by decide +kernel
theorem dX1_put_0 : decode cX1_put 0 = .ok (.aload_n 0, 1) := by decide +kernel
theorem dX1_put_1 : decode cX1_put 1 = .ok (.iload_n 1, 1) := by decide +kernel
theorem dX1_put_2 : decode cX1_put 2 = .ok (.invokevirtual 187, 3) := by decide +kernel
theorem dX1_put_5 : decode cX1_put 5 = .ok (.ifCond .eq 38, 3) := by decide +kernel
theorem dX1_put_8 : decode cX1_put 8 = .ok (.aload_n 0, 1) := by decide +kernel
theorem dX1_put_9 : decode cX1_put 9 = .ok (.iload_n 1, 1) := by decide +kernel
theorem dX1_put_10 : decode cX1_put 10 = .ok (.iload_n 2, 1) := by decide +kernel
theorem dX1_put_11 : decode cX1_put 11 = .ok (.i2l, 1) := by decide +kernel
theorem dX1_put_12 : decode cX1_put 12 = .ok (.iload_n 3, 1) := by decide +kernel
theorem dX1_put_13 : decode cX1_put 13 = .ok (.i2l, 1) := by decide +kernel
theorem dX1_put_14 : decode cX1_put 14 = .ok (.invokevirtual 204, 3) := by decide +kernel
theorem dX1_put_17 : decode cX1_put 17 = .ok (.ifCond .eq 26, 3) := by decide +kernel
theorem dX1_put_20 : decode cX1_put 20 = .ok (.iload 4, 2) := by decide +kernel
theorem dX1_put_22 : decode cX1_put 22 = .ok (.iconst (-1), 1) := by decide +kernel
theorem dX1_put_23 : decode cX1_put 23 = .ok (.if_icmp .eq 22, 3) := by decide +kernel
theorem dX1_put_26 : decode cX1_put 26 = .ok (.aload_n 0, 1) := by decide +kernel
theorem dX1_put_27 : decode cX1_put 27 = .ok (.iload 4, 2) := by decide +kernel
theorem dX1_put_29 : decode cX1_put 29 = .ok (.invokevirtual 145, 3) := by decide +kernel
theorem dX1_put_32 : decode cX1_put 32 = .ok (.ifCond .eq 11, 3) := by decide +kernel
theorem dX1_put_35 : decode cX1_put 35 = .ok (.iload 5, 2) := by decide +kernel
theorem dX1_put_37 : decode cX1_put 37 = .ok (.invokestatic 137, 3) := by decide +kernel
theorem dX1_put_40 : decode cX1_put 40 = .ok (.ifCond .ne 5, 3) := by decide +kernel
theorem dX1_put_43 : decode cX1_put 43 = .ok (.iconst 0, 1) := by decide +kernel
theorem dX1_put_44 : decode cX1_put 44 = .ok (.ireturn, 1) := by decide +kernel
theorem dX1_put_45 : decode cX1_put 45 = .ok (.aload_n 0, 1) := by decide +kernel
theorem dX1_put_46 : decode cX1_put 46 = .ok (.iload_n 1, 1) := by decide +kernel
theorem dX1_put_47 : decode cX1_put 47 = .ok (.iload_n 2, 1) := by decide +kernel
theorem dX1_put_48 : decode cX1_put 48 = .ok (.iload_n 3, 1) := by decide +kernel
theorem dX1_put_49 : decode cX1_put 49 = .ok (.iload 4, 2) := by decide +kernel
theorem dX1_put_51 : decode cX1_put 51 = .ok (.iconst (-1), 1) := by decide +kernel
theorem dX1_put_52 : decode cX1_put 52 = .ok (.if_icmp .ne 7, 3) := by decide +kernel
theorem dX1_put_55 : decode cX1_put 55 = .ok (.iconst 0, 1) := by decide +kernel
theorem dX1_put_56 : decode cX1_put 56 = .ok (.goto 17, 3) := by decide +kernel
theorem dX1_put_59 : decode cX1_put 59 = .ok (.iload 4, 2) := by decide +kernel
theorem dX1_put_61 : decode cX1_put 61 = .ok (.aload_n 0, 1) := by decide +kernel
theorem dX1_put_62 : decode cX1_put 62 = .ok (.iload 4, 2) := by decide +kernel
theorem dX1_put_64 : decode cX1_put 64 = .ok (.iload 5, 2) := by decide +kernel
theorem dX1_put_66 : decode cX1_put 66 = .ok (.invokevirtual 148, 3) := by decide +kernel
theorem dX1_put_69 : decode cX1_put 69 = .ok (.iconst 0, 1) := by decide +kernel
theorem dX1_put_70 : decode cX1_put 70 = .ok (.invokestatic 166, 3) := by decide +kernel
theorem dX1_put_73 : decode cX1_put 73 = .ok (.invokevirtual 208, 3) := by decide +kernel
theorem dX1_put_76 : decode cX1_put 76 = .ok (.ireturn, 1) := by decide +kernel
theorem dX1_has_0 : decode cX1_has 0 = .ok (.lload_n 2, 1) := by decide +kernel
theorem dX1_has_1 : decode cX1_has 1 = .ok (.lconst 0, 1) := by decide +kernel
theorem dX1_has_2 : decode cX1_has 2 = .ok (.lcmp, 1) := by decide +kernel
theorem dX1_has_3 : decode cX1_has 3 = .ok (.ifCond .lt 15, 3) := by decide +kernel
theorem dX1_has_6 : decode cX1_has 6 = .ok (.lload_n 2, 1) := by decide +kernel
theorem dX1_has_7 : decode cX1_has 7 = .ok (.aload_n 0, 1) := by decide +kernel
theorem dX1_has_8 : decode cX1_has 8 = .ok (.getfield 40, 3) := by decide +kernel
theorem dX1_has_11 : decode cX1_has 11 = .ok (.iload_n 1, 1) := by decide +kernel
theorem dX1_has_12 : decode cX1_has 12 = .ok (.iaload, 1) := by decide +kernel
theorem dX1_has_13 : decode cX1_has 13 = .ok (.i2l, 1) := by decide +kernel
theorem dX1_has_14 : decode cX1_has 14 = .ok (.lcmp, 1) := by decide +kernel
theorem dX1_has_15 : decode cX1_has 15 = .ok (.ifCond .lt 5, 3) := by decide +kernel
theorem dX1_has_18 : decode cX1_has 18 = .ok (.iconst 0, 1) := by decide +kernel
theorem dX1_has_19 : decode cX1_has 19 = .ok (.ireturn, 1) := by decide +kernel
theorem dX1_has_20 : decode cX1_has 20 = .ok (.aload_n 0, 1) := by decide +kernel
theorem dX1_has_21 : decode cX1_has 21 = .ok (.iload_n 1, 1) := by decide +kernel
theorem dX1_has_22 : decode cX1_has 22 = .ok (.lload_n 2, 1) := by decide +kernel
theorem dX1_has_23 : decode cX1_has 23 = .ok (.l2i, 1) := by decide +kernel
theorem dX1_has_24 : decode cX1_has 24 = .ok (.invokevirtual 175, 3) := by decide +kernel
theorem dX1_has_27 : decode cX1_has 27 = .ok (.istore 6, 2) := by decide +kernel
theorem dX1_has_29 : decode cX1_has 29 = .ok (.lload 4, 2) := by decide +kernel
theorem dX1_has_31 : decode cX1_has 31 = .ok (.aload_n 0, 1) := by decide +kernel
theorem dX1_has_32 : decode cX1_has 32 = .ok (.getfield 30, 3) := by decide +kernel
theorem dX1_has_35 : decode cX1_has 35 = .ok (.iload 6, 2) := by decide +kernel
theorem dX1_has_37 : decode cX1_has 37 = .ok (.iaload, 1) := by decide +kernel
theorem dX1_has_38 : decode cX1_has 38 = .ok (.i2l, 1) := by decide +kernel
theorem dX1_has_39 : decode cX1_has 39 = .ok (.lcmp, 1) := by decide +kernel
theorem dX1_has_40 : decode cX1_has 40 = .ok (.ifCond .lt 30, 3) := by decide +kernel
theorem dX1_has_43 : decode cX1_has 43 = .ok (.lload 4, 2) := by decide +kernel
theorem dX1_has_45 : decode cX1_has 45 = .ok (.aload_n 0, 1) := by decide +kernel
theorem dX1_has_46 : decode cX1_has 46 = .ok (.getfield 30, 3) := by decide +kernel
theorem dX1_has_49 : decode cX1_has 49 = .ok (.iload 6, 2) := by decide +kernel
theorem dX1_has_51 : decode cX1_has 51 = .ok (.iaload, 1) := by decide +kernel
theorem dX1_has_52 : decode cX1_has 52 = .ok (.i2l, 1) := by decide +kernel
theorem dX1_has_53 : decode cX1_has 53 = .ok (.aload_n 0, 1) := by decide +kernel
theorem dX1_has_54 : decode cX1_has 54 = .ok (.getfield 27, 3) := by decide +kernel
theorem dX1_has_57 : decode cX1_has 57 = .ok (.iload 6, 2) := by decide +kernel
theorem dX1_has_59 : decode cX1_has 59 = .ok (.iaload, 1) := by decide +kernel
theorem dX1_has_60 : decode cX1_has 60 = .ok (.i2l, 1) := by decide +kernel
theorem dX1_has_61 : decode cX1_has 61 = .ok (.ladd, 1) := by decide +kernel
theorem dX1_has_62 : decode cX1_has 62 = .ok (.lcmp, 1) := by decide +kernel
theorem dX1_has_63 : decode cX1_has 63 = .ok (.ifCond .ge 7, 3) := by decide +kernel
theorem dX1_has_66 : decode cX1_has 66 = .ok (.iconst 1, 1) := by decide +kernel
theorem dX1_has_67 : decode cX1_has 67 = .ok (.goto 4, 3) := by decide +kernel
theorem dX1_has_70 : decode cX1_has 70 = .ok (.iconst 0, 1) := by decide +kernel
theorem dX1_has_71 : decode cX1_has 71 = .ok (.ireturn, 1) := by decide +kernel
theorem dX1_cell_0 : decode cX1_cell 0 = .ok (.iload_n 2, 1) := by decide +kernel
theorem dX1_cell_1 : decode cX1_cell 1 = .ok (.bipush 16, 2) := by decide +kernel
theorem dX1_cell_3 : decode cX1_cell 3 = .ok (.ishl, 1) := by decide +kernel
theorem dX1_cell_4 : decode cX1_cell 4 = .ok (.bipush 8, 2) := by decide +kernel
theorem dX1_cell_6 : decode cX1_cell 6 = .ok (.iload_n 0, 1) := by decide +kernel
theorem dX1_cell_7 : decode cX1_cell 7 = .ok (.imul, 1) := by decide +kernel
theorem dX1_cell_8 : decode cX1_cell 8 = .ok (.iload_n 1, 1) := by decide +kernel
theorem dX1_cell_9 : decode cX1_cell 9 = .ok (.iadd, 1) := by decide +kernel
theorem dX1_cell_10 : decode cX1_cell 10 = .ok (.iconst 1, 1) := by decide +kernel
theorem dX1_cell_11 : decode cX1_cell 11 = .ok (.iadd, 1) := by decide +kernel
theorem dX1_cell_12 : decode cX1_cell 12 = .ok (.ior, 1) := by decide +kernel
theorem dX1_cell_13 : decode cX1_cell 13 = .ok (.ireturn, 1) := by decide +kernel
theorem dX1_sets_0 : decode cX1_sets 0 = .ok (.aload_n 0, 1) := by decide +kernel
theorem dX1_sets_1 : decode cX1_sets 1 = .ok (.getfield 172, 3) := by decide +kernel
theorem dX1_sets_4 : decode cX1_sets 4 = .ok (.sipush 6000, 3) := by decide +kernel
theorem dX1_sets_7 : decode cX1_sets 7 = .ok (.if_icmp .ne 5, 3) := by decide +kernel
theorem dX1_sets_10 : decode cX1_sets 10 = .ok (.iconst 0, 1) := by decide +kernel
theorem dX1_sets_11 : decode cX1_sets 11 = .ok (.ireturn, 1) := by decide +kernel
theorem dX1_sets_12 : decode cX1_sets 12 = .ok (.aload_n 0, 1) := by decide +kernel
theorem dX1_sets_13 : decode cX1_sets 13 = .ok (.iload_n 1, 1) := by decide +kernel
theorem dX1_sets_14 : decode cX1_sets 14 = .ok (.invokevirtual 190, 3) := by decide +kernel
theorem dX1_sets_17 : decode cX1_sets 17 = .ok (.aload_n 0, 1) := by decide +kernel
theorem dX1_sets_18 : decode cX1_sets 18 = .ok (.iload_n 1, 1) := by decide +kernel
theorem dX1_sets_19 : decode cX1_sets 19 = .ok (.iload_n 2, 1) := by decide +kernel
theorem dX1_sets_20 : decode cX1_sets 20 = .ok (.invokevirtual 201, 3) := by decide +kernel
theorem dX1_sets_23 : decode cX1_sets 23 = .ok (.aload_n 0, 1) := by decide +kernel
theorem dX1_sets_24 : decode cX1_sets 24 = .ok (.getfield 34, 3) := by decide +kernel
theorem dX1_sets_27 : decode cX1_sets 27 = .ok (.aload_n 0, 1) := by decide +kernel
theorem dX1_sets_28 : decode cX1_sets 28 = .ok (.iload_n 1, 1) := by decide +kernel
theorem dX1_sets_29 : decode cX1_sets 29 = .ok (.iload_n 2, 1) := by decide +kernel
theorem dX1_sets_30 : decode cX1_sets 30 = .ok (.iload_n 3, 1) := by decide +kernel
theorem dX1_sets_31 : decode cX1_sets 31 = .ok (.invokevirtual 178, 3) := by decide +kernel
theorem dX1_sets_34 : decode cX1_sets 34 = .ok (.iload 4, 2) := by decide +kernel
theorem dX1_sets_36 : decode cX1_sets 36 = .ok (.iastore, 1) := by decide +kernel
theorem dX1_sets_37 : decode cX1_sets 37 = .ok (.iconst 1, 1) := by decide +kernel
theorem dX1_sets_38 : decode cX1_sets 38 = .ok (.ireturn, 1) := by decide +kernel
theorem dX1_own_0 : decode cX1_own 0 = .ok (.aload_n 0, 1) := by decide +kernel
theorem dX1_own_1 : decode cX1_own 1 = .ok (.iload_n 1, 1) := by decide +kernel
theorem dX1_own_2 : decode cX1_own 2 = .ok (.iload_n 2, 1) := by decide +kernel
theorem dX1_own_3 : decode cX1_own 3 = .ok (.invokevirtual 175, 3) := by decide +kernel
theorem dX1_own_6 : decode cX1_own 6 = .ok (.istore_n 3, 1) := by decide +kernel
theorem dX1_own_7 : decode cX1_own 7 = .ok (.aload_n 0, 1) := by decide +kernel
theorem dX1_own_8 : decode cX1_own 8 = .ok (.aload_n 0, 1) := by decide +kernel
theorem dX1_own_9 : decode cX1_own 9 = .ok (.getfield 27, 3) := by decide +kernel
theorem dX1_own_12 : decode cX1_own 12 = .ok (.iload_n 3, 1) := by decide +kernel
theorem dX1_own_13 : decode cX1_own 13 = .ok (.iaload, 1) := by decide +kernel
theorem dX1_own_14 : decode cX1_own 14 = .ok (.aload_n 0, 1) := by decide +kernel
theorem dX1_own_15 : decode cX1_own 15 = .ok (.getfield 30, 3) := by decide +kernel
theorem dX1_own_18 : decode cX1_own 18 = .ok (.iload_n 3, 1) := by decide +kernel
theorem dX1_own_19 : decode cX1_own 19 = .ok (.iaload, 1) := by decide +kernel
theorem dX1_own_20 : decode cX1_own 20 = .ok (.invokevirtual 194, 3) := by decide +kernel
theorem dX1_own_23 : decode cX1_own 23 = .ok (.istore 4, 2) := by decide +kernel
theorem dX1_own_25 : decode cX1_own 25 = .ok (.iconst 0, 1) := by decide +kernel
theorem dX1_own_26 : decode cX1_own 26 = .ok (.istore 5, 2) := by decide +kernel
theorem dX1_own_28 : decode cX1_own 28 = .ok (.iload 5, 2) := by decide +kernel
theorem dX1_own_30 : decode cX1_own 30 = .ok (.aload_n 0, 1) := by decide +kernel
theorem dX1_own_31 : decode cX1_own 31 = .ok (.getfield 27, 3) := by decide +kernel
theorem dX1_own_34 : decode cX1_own 34 = .ok (.iload_n 3, 1) := by decide +kernel
theorem dX1_own_35 : decode cX1_own 35 = .ok (.iaload, 1) := by decide +kernel
theorem dX1_own_36 : decode cX1_own 36 = .ok (.if_icmp .ge 34, 3) := by decide +kernel
theorem dX1_own_39 : decode cX1_own 39 = .ok (.aload_n 0, 1) := by decide +kernel
theorem dX1_own_40 : decode cX1_own 40 = .ok (.getfield 34, 3) := by decide +kernel
theorem dX1_own_43 : decode cX1_own 43 = .ok (.bipush 60, 2) := by decide +kernel
theorem dX1_own_45 : decode cX1_own 45 = .ok (.iload 4, 2) := by decide +kernel
theorem dX1_own_47 : decode cX1_own 47 = .ok (.imul, 1) := by decide +kernel
theorem dX1_own_48 : decode cX1_own 48 = .ok (.iload 5, 2) := by decide +kernel
theorem dX1_own_50 : decode cX1_own 50 = .ok (.iadd, 1) := by decide +kernel
theorem dX1_own_51 : decode cX1_own 51 = .ok (.aload_n 0, 1) := by decide +kernel
theorem dX1_own_52 : decode cX1_own 52 = .ok (.getfield 34, 3) := by decide +kernel
theorem dX1_own_55 : decode cX1_own 55 = .ok (.bipush 60, 2) := by decide +kernel
theorem dX1_own_57 : decode cX1_own 57 = .ok (.iload_n 3, 1) := by decide +kernel
theorem dX1_own_58 : decode cX1_own 58 = .ok (.imul, 1) := by decide +kernel
theorem dX1_own_59 : decode cX1_own 59 = .ok (.iload 5, 2) := by decide +kernel
theorem dX1_own_61 : decode cX1_own 61 = .ok (.iadd, 1) := by decide +kernel
theorem dX1_own_62 : decode cX1_own 62 = .ok (.iaload, 1) := by decide +kernel
theorem dX1_own_63 : decode cX1_own 63 = .ok (.iastore, 1) := by decide +kernel
theorem dX1_own_64 : decode cX1_own 64 = .ok (.iinc 5 1, 3) := by decide +kernel
theorem dX1_own_67 : decode cX1_own 67 = .ok (.goto (-39), 3) := by decide +kernel
theorem dX1_own_70 : decode cX1_own 70 = .ok (.aload_n 0, 1) := by decide +kernel
theorem dX1_own_71 : decode cX1_own 71 = .ok (.getfield 37, 3) := by decide +kernel
theorem dX1_own_74 : decode cX1_own 74 = .ok (.bipush 60, 2) := by decide +kernel
theorem dX1_own_76 : decode cX1_own 76 = .ok (.iload_n 1, 1) := by decide +kernel
theorem dX1_own_77 : decode cX1_own 77 = .ok (.imul, 1) := by decide +kernel
theorem dX1_own_78 : decode cX1_own 78 = .ok (.iload_n 2, 1) := by decide +kernel
theorem dX1_own_79 : decode cX1_own 79 = .ok (.iadd, 1) := by decide +kernel
theorem dX1_own_80 : decode cX1_own 80 = .ok (.iload 4, 2) := by decide +kernel
theorem dX1_own_82 : decode cX1_own 82 = .ok (.iastore, 1) := by decide +kernel
theorem dX1_own_83 : decode cX1_own 83 = .ok (.return_, 1) := by decide +kernel
theorem dX1_placeOf_0 : decode cX1_placeOf 0 = .ok (.bipush 60, 2) := by decide +kernel
theorem dX1_placeOf_2 : decode cX1_placeOf 2 = .ok (.aload_n 0, 1) := by decide +kernel
theorem dX1_placeOf_3 : decode cX1_placeOf 3 = .ok (.iload_n 1, 1) := by decide +kernel
theorem dX1_placeOf_4 : decode cX1_placeOf 4 = .ok (.iload_n 2, 1) := by decide +kernel
theorem dX1_placeOf_5 : decode cX1_placeOf 5 = .ok (.invokevirtual 175, 3) := by decide +kernel
theorem dX1_placeOf_8 : decode cX1_placeOf 8 = .ok (.imul, 1) := by decide +kernel
theorem dX1_placeOf_9 : decode cX1_placeOf 9 = .ok (.iload_n 3, 1) := by decide +kernel
theorem dX1_placeOf_10 : decode cX1_placeOf 10 = .ok (.iadd, 1) := by decide +kernel
theorem dX1_placeOf_11 : decode cX1_placeOf 11 = .ok (.aload_n 0, 1) := by decide +kernel
theorem dX1_placeOf_12 : decode cX1_placeOf 12 = .ok (.getfield 30, 3) := by decide +kernel
theorem dX1_placeOf_15 : decode cX1_placeOf 15 = .ok (.aload_n 0, 1) := by decide +kernel
theorem dX1_placeOf_16 : decode cX1_placeOf 16 = .ok (.iload_n 1, 1) := by decide +kernel
theorem dX1_placeOf_17 : decode cX1_placeOf 17 = .ok (.iload_n 2, 1) := by decide +kernel
theorem dX1_placeOf_18 : decode cX1_placeOf 18 = .ok (.invokevirtual 175, 3) := by decide +kernel
theorem dX1_placeOf_21 : decode cX1_placeOf 21 = .ok (.iaload, 1) := by decide +kernel
theorem dX1_placeOf_22 : decode cX1_placeOf 22 = .ok (.isub, 1) := by decide +kernel
theorem dX1_placeOf_23 : decode cX1_placeOf 23 = .ok (.ireturn, 1) := by decide +kernel
theorem dX1_shade_0 : decode cX1_shade 0 = .ok (.aload_n 0, 1) := by decide +kernel
theorem dX1_shade_1 : decode cX1_shade 1 = .ok (.iload_n 1, 1) := by decide +kernel
theorem dX1_shade_2 : decode cX1_shade 2 = .ok (.invokevirtual 187, 3) := by decide +kernel
theorem dX1_shade_5 : decode cX1_shade 5 = .ok (.ifCond .eq 25, 3) := by decide +kernel
theorem dX1_shade_8 : decode cX1_shade 8 = .ok (.aload_n 0, 1) := by decide +kernel
theorem dX1_shade_9 : decode cX1_shade 9 = .ok (.iload_n 1, 1) := by decide +kernel
theorem dX1_shade_10 : decode cX1_shade 10 = .ok (.iload_n 2, 1) := by decide +kernel
theorem dX1_shade_11 : decode cX1_shade 11 = .ok (.i2l, 1) := by decide +kernel
theorem dX1_shade_12 : decode cX1_shade 12 = .ok (.iload_n 3, 1) := by decide +kernel
theorem dX1_shade_13 : decode cX1_shade 13 = .ok (.i2l, 1) := by decide +kernel
theorem dX1_shade_14 : decode cX1_shade 14 = .ok (.invokevirtual 204, 3) := by decide +kernel
theorem dX1_shade_17 : decode cX1_shade 17 = .ok (.ifCond .eq 13, 3) := by decide +kernel
theorem dX1_shade_20 : decode cX1_shade 20 = .ok (.aload_n 0, 1) := by decide +kernel
theorem dX1_shade_21 : decode cX1_shade 21 = .ok (.iload_n 1, 1) := by decide +kernel
theorem dX1_shade_22 : decode cX1_shade 22 = .ok (.iload_n 2, 1) := by decide +kernel
theorem dX1_shade_23 : decode cX1_shade 23 = .ok (.iload_n 3, 1) := by decide +kernel
theorem dX1_shade_24 : decode cX1_shade 24 = .ok (.invokevirtual 212, 3) := by decide +kernel
theorem dX1_shade_27 : decode cX1_shade 27 = .ok (.ifCond .ne 5, 3) := by decide +kernel
theorem dX1_shade_30 : decode cX1_shade 30 = .ok (.iconst 0, 1) := by decide +kernel
theorem dX1_shade_31 : decode cX1_shade 31 = .ok (.ireturn, 1) := by decide +kernel
theorem dX1_shade_32 : decode cX1_shade 32 = .ok (.aload_n 0, 1) := by decide +kernel
theorem dX1_shade_33 : decode cX1_shade 33 = .ok (.iload_n 1, 1) := by decide +kernel
theorem dX1_shade_34 : decode cX1_shade 34 = .ok (.iload_n 2, 1) := by decide +kernel
theorem dX1_shade_35 : decode cX1_shade 35 = .ok (.iload_n 3, 1) := by decide +kernel
theorem dX1_shade_36 : decode cX1_shade 36 = .ok (.invokevirtual 212, 3) := by decide +kernel
theorem dX1_shade_39 : decode cX1_shade 39 = .ok (.istore 5, 2) := by decide +kernel
theorem dX1_shade_41 : decode cX1_shade 41 = .ok (.aload_n 0, 1) := by decide +kernel
theorem dX1_shade_42 : decode cX1_shade 42 = .ok (.iload_n 1, 1) := by decide +kernel
theorem dX1_shade_43 : decode cX1_shade 43 = .ok (.iload_n 2, 1) := by decide +kernel
theorem dX1_shade_44 : decode cX1_shade 44 = .ok (.iload_n 3, 1) := by decide +kernel
theorem dX1_shade_45 : decode cX1_shade 45 = .ok (.iload 5, 2) := by decide +kernel
theorem dX1_shade_47 : decode cX1_shade 47 = .ok (.invokestatic 156, 3) := by decide +kernel
theorem dX1_shade_50 : decode cX1_shade 50 = .ok (.iload 5, 2) := by decide +kernel
theorem dX1_shade_52 : decode cX1_shade 52 = .ok (.invokestatic 160, 3) := by decide +kernel
theorem dX1_shade_55 : decode cX1_shade 55 = .ok (.iload 4, 2) := by decide +kernel
theorem dX1_shade_57 : decode cX1_shade 57 = .ok (.i2s, 1) := by decide +kernel
theorem dX1_shade_58 : decode cX1_shade 58 = .ok (.invokestatic 166, 3) := by decide +kernel
theorem dX1_shade_61 : decode cX1_shade 61 = .ok (.invokevirtual 208, 3) := by decide +kernel
theorem dX1_shade_64 : decode cX1_shade 64 = .ok (.ireturn, 1) := by decide +kernel
theorem dX1_cellAt_0 : decode cX1_cellAt 0 = .ok (.aload_n 0, 1) := by decide +kernel
theorem dX1_cellAt_1 : decode cX1_cellAt 1 = .ok (.getfield 34, 3) := by decide +kernel
theorem dX1_cellAt_4 : decode cX1_cellAt 4 = .ok (.aload_n 0, 1) := by decide +kernel
theorem dX1_cellAt_5 : decode cX1_cellAt 5 = .ok (.iload_n 1, 1) := by decide +kernel
theorem dX1_cellAt_6 : decode cX1_cellAt 6 = .ok (.iload_n 2, 1) := by decide +kernel
theorem dX1_cellAt_7 : decode cX1_cellAt 7 = .ok (.iload_n 3, 1) := by decide +kernel
theorem dX1_cellAt_8 : decode cX1_cellAt 8 = .ok (.invokevirtual 178, 3) := by decide +kernel
theorem dX1_cellAt_11 : decode cX1_cellAt 11 = .ok (.iaload, 1) := by decide +kernel
theorem dX1_cellAt_12 : decode cX1_cellAt 12 = .ok (.ireturn, 1) := by decide +kernel
theorem dX1_kindOf_0 : decode cX1_kindOf 0 = .ok (.iload_n 0, 1) := by decide +kernel
theorem dX1_kindOf_1 : decode cX1_kindOf 1 = .ok (.ldc 155, 2) := by decide +kernel
theorem dX1_kindOf_3 : decode cX1_kindOf 3 = .ok (.iand, 1) := by decide +kernel
theorem dX1_kindOf_4 : decode cX1_kindOf 4 = .ok (.iconst 1, 1) := by decide +kernel
theorem dX1_kindOf_5 : decode cX1_kindOf 5 = .ok (.isub, 1) := by decide +kernel
theorem dX1_kindOf_6 : decode cX1_kindOf 6 = .ok (.iconst 3, 1) := by decide +kernel
theorem dX1_kindOf_7 : decode cX1_kindOf 7 = .ok (.ishr, 1) := by decide +kernel
theorem dX1_kindOf_8 : decode cX1_kindOf 8 = .ok (.ireturn, 1) := by decide +kernel
theorem dX1_moveOf_0 : decode cX1_moveOf 0 = .ok (.iload_n 0, 1) := by decide +kernel
theorem dX1_moveOf_1 : decode cX1_moveOf 1 = .ok (.ldc 155, 2) := by decide +kernel
theorem dX1_moveOf_3 : decode cX1_moveOf 3 = .ok (.iand, 1) := by decide +kernel
theorem dX1_moveOf_4 : decode cX1_moveOf 4 = .ok (.iconst 1, 1) := by decide +kernel
theorem dX1_moveOf_5 : decode cX1_moveOf 5 = .ok (.isub, 1) := by decide +kernel
theorem dX1_moveOf_6 : decode cX1_moveOf 6 = .ok (.bipush 7, 2) := by decide +kernel
theorem dX1_moveOf_8 : decode cX1_moveOf 8 = .ok (.iand, 1) := by decide +kernel
theorem dX1_moveOf_9 : decode cX1_moveOf 9 = .ok (.ireturn, 1) := by decide +kernel
theorem dX1_at_0 : decode cX1_at 0 = .ok (.aload_n 0, 1) := by decide +kernel
theorem dX1_at_1 : decode cX1_at 1 = .ok (.iload_n 1, 1) := by decide +kernel
theorem dX1_at_2 : decode cX1_at 2 = .ok (.invokevirtual 187, 3) := by decide +kernel
theorem dX1_at_5 : decode cX1_at 5 = .ok (.ifCond .eq 14, 3) := by decide +kernel
theorem dX1_at_8 : decode cX1_at 8 = .ok (.iload 4, 2) := by decide +kernel
theorem dX1_at_10 : decode cX1_at 10 = .ok (.ifCond .lt 9, 3) := by decide +kernel
theorem dX1_at_13 : decode cX1_at 13 = .ok (.iload 4, 2) := by decide +kernel
theorem dX1_at_15 : decode cX1_at 15 = .ok (.iconst 2, 1) := by decide +kernel
theorem dX1_at_16 : decode cX1_at 16 = .ok (.if_icmp .le 5, 3) := by decide +kernel
theorem dX1_at_19 : decode cX1_at 19 = .ok (.iconst (-1), 1) := by decide +kernel
theorem dX1_at_20 : decode cX1_at 20 = .ok (.ireturn, 1) := by decide +kernel
theorem dX1_at_21 : decode cX1_at 21 = .ok (.aload_n 0, 1) := by decide +kernel
theorem dX1_at_22 : decode cX1_at 22 = .ok (.iload_n 1, 1) := by decide +kernel
theorem dX1_at_23 : decode cX1_at 23 = .ok (.iload_n 2, 1) := by decide +kernel
theorem dX1_at_24 : decode cX1_at 24 = .ok (.i2l, 1) := by decide +kernel
theorem dX1_at_25 : decode cX1_at 25 = .ok (.iload_n 3, 1) := by decide +kernel
theorem dX1_at_26 : decode cX1_at 26 = .ok (.i2l, 1) := by decide +kernel
theorem dX1_at_27 : decode cX1_at 27 = .ok (.invokevirtual 204, 3) := by decide +kernel
theorem dX1_at_30 : decode cX1_at 30 = .ok (.istore 5, 2) := by decide +kernel
theorem dX1_at_32 : decode cX1_at 32 = .ok (.iload 5, 2) := by decide +kernel
theorem dX1_at_34 : decode cX1_at 34 = .ok (.ifCond .eq 13, 3) := by decide +kernel
theorem dX1_at_37 : decode cX1_at 37 = .ok (.aload_n 0, 1) := by decide +kernel
theorem dX1_at_38 : decode cX1_at 38 = .ok (.iload_n 1, 1) := by decide +kernel
theorem dX1_at_39 : decode cX1_at 39 = .ok (.iload_n 2, 1) := by decide +kernel
theorem dX1_at_40 : decode cX1_at 40 = .ok (.iload_n 3, 1) := by decide +kernel
theorem dX1_at_41 : decode cX1_at 41 = .ok (.invokevirtual 212, 3) := by decide +kernel
theorem dX1_at_44 : decode cX1_at 44 = .ok (.goto 4, 3) := by decide +kernel
theorem dX1_at_47 : decode cX1_at 47 = .ok (.iconst 0, 1) := by decide +kernel
theorem dX1_at_48 : decode cX1_at 48 = .ok (.istore 6, 2) := by decide +kernel
theorem dX1_at_50 : decode cX1_at 50 = .ok (.iload 4, 2) := by decide +kernel
theorem dX1_at_52 : decode cX1_at 52 = .ok (.ifCond .ne 28, 3) := by decide +kernel
theorem dX1_at_55 : decode cX1_at 55 = .ok (.iload 5, 2) := by decide +kernel
theorem dX1_at_57 : decode cX1_at 57 = .ok (.ifCond .ne 8, 3) := by decide +kernel
theorem dX1_at_60 : decode cX1_at 60 = .ok (.bipush (-2), 2) := by decide +kernel
theorem dX1_at_62 : decode cX1_at 62 = .ok (.goto 17, 3) := by decide +kernel
theorem dX1_at_65 : decode cX1_at 65 = .ok (.iload 6, 2) := by decide +kernel
theorem dX1_at_67 : decode cX1_at 67 = .ok (.ifCond .ne 7, 3) := by decide +kernel
theorem dX1_at_70 : decode cX1_at 70 = .ok (.iconst (-1), 1) := by decide +kernel
theorem dX1_at_71 : decode cX1_at 71 = .ok (.goto 8, 3) := by decide +kernel
theorem dX1_at_74 : decode cX1_at 74 = .ok (.iload 6, 2) := by decide +kernel
theorem dX1_at_76 : decode cX1_at 76 = .ok (.invokestatic 156, 3) := by decide +kernel
theorem dX1_at_79 : decode cX1_at 79 = .ok (.ireturn, 1) := by decide +kernel
theorem dX1_at_80 : decode cX1_at 80 = .ok (.iload 6, 2) := by decide +kernel
theorem dX1_at_82 : decode cX1_at 82 = .ok (.ifCond .ne 7, 3) := by decide +kernel
theorem dX1_at_85 : decode cX1_at 85 = .ok (.iconst 0, 1) := by decide +kernel
theorem dX1_at_86 : decode cX1_at 86 = .ok (.goto 22, 3) := by decide +kernel
theorem dX1_at_89 : decode cX1_at 89 = .ok (.iload 4, 2) := by decide +kernel
theorem dX1_at_91 : decode cX1_at 91 = .ok (.iconst 1, 1) := by decide +kernel
theorem dX1_at_92 : decode cX1_at 92 = .ok (.if_icmp .ne 11, 3) := by decide +kernel
theorem dX1_at_95 : decode cX1_at 95 = .ok (.iload 6, 2) := by decide +kernel
theorem dX1_at_97 : decode cX1_at 97 = .ok (.invokestatic 160, 3) := by decide +kernel
theorem dX1_at_100 : decode cX1_at 100 = .ok (.goto 8, 3) := by decide +kernel
theorem dX1_at_103 : decode cX1_at 103 = .ok (.iload 6, 2) := by decide +kernel
theorem dX1_at_105 : decode cX1_at 105 = .ok (.invokestatic 163, 3) := by decide +kernel
theorem dX1_at_108 : decode cX1_at 108 = .ok (.ireturn, 1) := by decide +kernel
theorem dX1_shadeOf_0 : decode cX1_shadeOf 0 = .ok (.iload_n 0, 1) := by decide +kernel
theorem dX1_shadeOf_1 : decode cX1_shadeOf 1 = .ok (.bipush 16, 2) := by decide +kernel
theorem dX1_shadeOf_3 : decode cX1_shadeOf 3 = .ok (.ishr, 1) := by decide +kernel
theorem dX1_shadeOf_4 : decode cX1_shadeOf 4 = .ok (.ireturn, 1) := by decide +kernel
theorem dX1_row_0 : decode cX1_row 0 = .ok (.aload_n 0, 1) := by decide +kernel
theorem dX1_row_1 : decode cX1_row 1 = .ok (.iload_n 1, 1) := by decide +kernel
theorem dX1_row_2 : decode cX1_row 2 = .ok (.invokevirtual 187, 3) := by decide +kernel
theorem dX1_row_5 : decode cX1_row 5 = .ok (.ifCond .eq 26, 3) := by decide +kernel
theorem dX1_row_8 : decode cX1_row 8 = .ok (.iload_n 2, 1) := by decide +kernel
theorem dX1_row_9 : decode cX1_row 9 = .ok (.ifCond .lt 22, 3) := by decide +kernel
theorem dX1_row_12 : decode cX1_row 12 = .ok (.iload_n 2, 1) := by decide +kernel
theorem dX1_row_13 : decode cX1_row 13 = .ok (.aload_n 0, 1) := by decide +kernel
theorem dX1_row_14 : decode cX1_row 14 = .ok (.getfield 40, 3) := by decide +kernel
theorem dX1_row_17 : decode cX1_row 17 = .ok (.iload_n 1, 1) := by decide +kernel
theorem dX1_row_18 : decode cX1_row 18 = .ok (.iaload, 1) := by decide +kernel
theorem dX1_row_19 : decode cX1_row 19 = .ok (.if_icmp .ge 12, 3) := by decide +kernel
theorem dX1_row_22 : decode cX1_row 22 = .ok (.iload_n 3, 1) := by decide +kernel
theorem dX1_row_23 : decode cX1_row 23 = .ok (.ifCond .lt 8, 3) := by decide +kernel
theorem dX1_row_26 : decode cX1_row 26 = .ok (.iload_n 3, 1) := by decide +kernel
theorem dX1_row_27 : decode cX1_row 27 = .ok (.iconst 2, 1) := by decide +kernel
theorem dX1_row_28 : decode cX1_row 28 = .ok (.if_icmp .le 5, 3) := by decide +kernel
theorem dX1_row_31 : decode cX1_row 31 = .ok (.iconst (-1), 1) := by decide +kernel
theorem dX1_row_32 : decode cX1_row 32 = .ok (.ireturn, 1) := by decide +kernel
theorem dX1_row_33 : decode cX1_row 33 = .ok (.aload_n 0, 1) := by decide +kernel
theorem dX1_row_34 : decode cX1_row 34 = .ok (.iload_n 1, 1) := by decide +kernel
theorem dX1_row_35 : decode cX1_row 35 = .ok (.iload_n 2, 1) := by decide +kernel
theorem dX1_row_36 : decode cX1_row 36 = .ok (.invokevirtual 175, 3) := by decide +kernel
theorem dX1_row_39 : decode cX1_row 39 = .ok (.istore 4, 2) := by decide +kernel
theorem dX1_row_41 : decode cX1_row 41 = .ok (.iload_n 3, 1) := by decide +kernel
theorem dX1_row_42 : decode cX1_row 42 = .ok (.iconst 2, 1) := by decide +kernel
theorem dX1_row_43 : decode cX1_row 43 = .ok (.if_icmp .ge 25, 3) := by decide +kernel
theorem dX1_row_46 : decode cX1_row 46 = .ok (.iload_n 3, 1) := by decide +kernel
theorem dX1_row_47 : decode cX1_row 47 = .ok (.ifCond .ne 13, 3) := by decide +kernel
theorem dX1_row_50 : decode cX1_row 50 = .ok (.aload_n 0, 1) := by decide +kernel
theorem dX1_row_51 : decode cX1_row 51 = .ok (.getfield 27, 3) := by decide +kernel
theorem dX1_row_54 : decode cX1_row 54 = .ok (.iload 4, 2) := by decide +kernel
theorem dX1_row_56 : decode cX1_row 56 = .ok (.iaload, 1) := by decide +kernel
theorem dX1_row_57 : decode cX1_row 57 = .ok (.goto 10, 3) := by decide +kernel
theorem dX1_row_60 : decode cX1_row 60 = .ok (.aload_n 0, 1) := by decide +kernel
theorem dX1_row_61 : decode cX1_row 61 = .ok (.getfield 30, 3) := by decide +kernel
theorem dX1_row_64 : decode cX1_row 64 = .ok (.iload 4, 2) := by decide +kernel
theorem dX1_row_66 : decode cX1_row 66 = .ok (.iaload, 1) := by decide +kernel
theorem dX1_row_67 : decode cX1_row 67 = .ok (.ireturn, 1) := by decide +kernel
theorem dX1_row_68 : decode cX1_row 68 = .ok (.iconst 0, 1) := by decide +kernel
theorem dX1_row_69 : decode cX1_row 69 = .ok (.istore 5, 2) := by decide +kernel
theorem dX1_row_71 : decode cX1_row 71 = .ok (.iconst 0, 1) := by decide +kernel
theorem dX1_row_72 : decode cX1_row 72 = .ok (.istore 6, 2) := by decide +kernel
theorem dX1_row_74 : decode cX1_row 74 = .ok (.iload 6, 2) := by decide +kernel
theorem dX1_row_76 : decode cX1_row 76 = .ok (.aload_n 0, 1) := by decide +kernel
theorem dX1_row_77 : decode cX1_row 77 = .ok (.getfield 169, 3) := by decide +kernel
theorem dX1_row_80 : decode cX1_row 80 = .ok (.if_icmp .ge 53, 3) := by decide +kernel
theorem dX1_row_83 : decode cX1_row 83 = .ok (.iconst 0, 1) := by decide +kernel
theorem dX1_row_84 : decode cX1_row 84 = .ok (.istore 7, 2) := by decide +kernel
theorem dX1_row_86 : decode cX1_row 86 = .ok (.iload 7, 2) := by decide +kernel
theorem dX1_row_88 : decode cX1_row 88 = .ok (.aload_n 0, 1) := by decide +kernel
theorem dX1_row_89 : decode cX1_row 89 = .ok (.getfield 40, 3) := by decide +kernel
theorem dX1_row_92 : decode cX1_row 92 = .ok (.iload 6, 2) := by decide +kernel
theorem dX1_row_94 : decode cX1_row 94 = .ok (.iaload, 1) := by decide +kernel
theorem dX1_row_95 : decode cX1_row 95 = .ok (.if_icmp .ge 32, 3) := by decide +kernel
theorem dX1_row_98 : decode cX1_row 98 = .ok (.iload 5, 2) := by decide +kernel
theorem dX1_row_100 : decode cX1_row 100 = .ok (.aload_n 0, 1) := by decide +kernel
theorem dX1_row_101 : decode cX1_row 101 = .ok (.iload 6, 2) := by decide +kernel
theorem dX1_row_103 : decode cX1_row 103 = .ok (.iload 7, 2) := by decide +kernel
theorem dX1_row_105 : decode cX1_row 105 = .ok (.invokevirtual 175, 3) := by decide +kernel
theorem dX1_row_108 : decode cX1_row 108 = .ok (.iload 4, 2) := by decide +kernel
theorem dX1_row_110 : decode cX1_row 110 = .ok (.if_icmp .ne 7, 3) := by decide +kernel
theorem dX1_row_113 : decode cX1_row 113 = .ok (.iconst 1, 1) := by decide +kernel
theorem dX1_row_114 : decode cX1_row 114 = .ok (.goto 4, 3) := by decide +kernel
theorem dX1_row_117 : decode cX1_row 117 = .ok (.iconst 0, 1) := by decide +kernel
theorem dX1_row_118 : decode cX1_row 118 = .ok (.iadd, 1) := by decide +kernel
theorem dX1_row_119 : decode cX1_row 119 = .ok (.istore 5, 2) := by decide +kernel
theorem dX1_row_121 : decode cX1_row 121 = .ok (.iinc 7 1, 3) := by decide +kernel
theorem dX1_row_124 : decode cX1_row 124 = .ok (.goto (-38), 3) := by decide +kernel
theorem dX1_row_127 : decode cX1_row 127 = .ok (.iinc 6 1, 3) := by decide +kernel
theorem dX1_row_130 : decode cX1_row 130 = .ok (.goto (-56), 3) := by decide +kernel
theorem dX1_row_133 : decode cX1_row 133 = .ok (.iload 5, 2) := by decide +kernel
theorem dX1_row_135 : decode cX1_row 135 = .ok (.ireturn, 1) := by decide +kernel
theorem dX1_shares_0 : decode cX1_shares 0 = .ok (.aload_n 0, 1) := by decide +kernel
theorem dX1_shares_1 : decode cX1_shares 1 = .ok (.iload_n 1, 1) := by decide +kernel
theorem dX1_shares_2 : decode cX1_shares 2 = .ok (.invokevirtual 187, 3) := by decide +kernel
theorem dX1_shares_5 : decode cX1_shares 5 = .ok (.ifCond .eq 61, 3) := by decide +kernel
theorem dX1_shares_8 : decode cX1_shares 8 = .ok (.aload_n 0, 1) := by decide +kernel
theorem dX1_shares_9 : decode cX1_shares 9 = .ok (.iload_n 3, 1) := by decide +kernel
theorem dX1_shares_10 : decode cX1_shares 10 = .ok (.invokevirtual 187, 3) := by decide +kernel
theorem dX1_shares_13 : decode cX1_shares 13 = .ok (.ifCond .eq 53, 3) := by decide +kernel
theorem dX1_shares_16 : decode cX1_shares 16 = .ok (.iload_n 2, 1) := by decide +kernel
theorem dX1_shares_17 : decode cX1_shares 17 = .ok (.ifCond .lt 49, 3) := by decide +kernel
theorem dX1_shares_20 : decode cX1_shares 20 = .ok (.iload_n 2, 1) := by decide +kernel
theorem dX1_shares_21 : decode cX1_shares 21 = .ok (.aload_n 0, 1) := by decide +kernel
theorem dX1_shares_22 : decode cX1_shares 22 = .ok (.getfield 40, 3) := by decide +kernel
theorem dX1_shares_25 : decode cX1_shares 25 = .ok (.iload_n 1, 1) := by decide +kernel
theorem dX1_shares_26 : decode cX1_shares 26 = .ok (.iaload, 1) := by decide +kernel
theorem dX1_shares_27 : decode cX1_shares 27 = .ok (.if_icmp .ge 39, 3) := by decide +kernel
theorem dX1_shares_30 : decode cX1_shares 30 = .ok (.iload 4, 2) := by decide +kernel
theorem dX1_shares_32 : decode cX1_shares 32 = .ok (.ifCond .lt 34, 3) := by decide +kernel
theorem dX1_shares_35 : decode cX1_shares 35 = .ok (.iload 4, 2) := by decide +kernel
theorem dX1_shares_37 : decode cX1_shares 37 = .ok (.aload_n 0, 1) := by decide +kernel
theorem dX1_shares_38 : decode cX1_shares 38 = .ok (.getfield 40, 3) := by decide +kernel
theorem dX1_shares_41 : decode cX1_shares 41 = .ok (.iload_n 3, 1) := by decide +kernel
theorem dX1_shares_42 : decode cX1_shares 42 = .ok (.iaload, 1) := by decide +kernel
theorem dX1_shares_43 : decode cX1_shares 43 = .ok (.if_icmp .ge 23, 3) := by decide +kernel
theorem dX1_shares_46 : decode cX1_shares 46 = .ok (.aload_n 0, 1) := by decide +kernel
theorem dX1_shares_47 : decode cX1_shares 47 = .ok (.iload_n 1, 1) := by decide +kernel
theorem dX1_shares_48 : decode cX1_shares 48 = .ok (.iload_n 2, 1) := by decide +kernel
theorem dX1_shares_49 : decode cX1_shares 49 = .ok (.invokevirtual 175, 3) := by decide +kernel
theorem dX1_shares_52 : decode cX1_shares 52 = .ok (.aload_n 0, 1) := by decide +kernel
theorem dX1_shares_53 : decode cX1_shares 53 = .ok (.iload_n 3, 1) := by decide +kernel
theorem dX1_shares_54 : decode cX1_shares 54 = .ok (.iload 4, 2) := by decide +kernel
theorem dX1_shares_56 : decode cX1_shares 56 = .ok (.invokevirtual 175, 3) := by decide +kernel
theorem dX1_shares_59 : decode cX1_shares 59 = .ok (.if_icmp .ne 7, 3) := by decide +kernel
theorem dX1_shares_62 : decode cX1_shares 62 = .ok (.iconst 1, 1) := by decide +kernel
theorem dX1_shares_63 : decode cX1_shares 63 = .ok (.goto 4, 3) := by decide +kernel
theorem dX1_shares_66 : decode cX1_shares 66 = .ok (.iconst 0, 1) := by decide +kernel
theorem dX1_shares_67 : decode cX1_shares 67 = .ok (.ireturn, 1) := by decide +kernel
theorem dX1_copy_0 : decode cX1_copy 0 = .ok (.aload_n 0, 1) := by decide +kernel
theorem dX1_copy_1 : decode cX1_copy 1 = .ok (.iload_n 1, 1) := by decide +kernel
theorem dX1_copy_2 : decode cX1_copy 2 = .ok (.invokevirtual 187, 3) := by decide +kernel
theorem dX1_copy_5 : decode cX1_copy 5 = .ok (.ifCond .eq 12, 3) := by decide +kernel
theorem dX1_copy_8 : decode cX1_copy 8 = .ok (.aload_n 0, 1) := by decide +kernel
theorem dX1_copy_9 : decode cX1_copy 9 = .ok (.getfield 169, 3) := by decide +kernel
theorem dX1_copy_12 : decode cX1_copy 12 = .ok (.bipush 16, 2) := by decide +kernel
theorem dX1_copy_14 : decode cX1_copy 14 = .ok (.if_icmp .ne 5, 3) := by decide +kernel
theorem dX1_copy_17 : decode cX1_copy 17 = .ok (.iconst (-1), 1) := by decide +kernel
theorem dX1_copy_18 : decode cX1_copy 18 = .ok (.ireturn, 1) := by decide +kernel
theorem dX1_copy_19 : decode cX1_copy 19 = .ok (.aload_n 0, 1) := by decide +kernel
theorem dX1_copy_20 : decode cX1_copy 20 = .ok (.getfield 40, 3) := by decide +kernel
theorem dX1_copy_23 : decode cX1_copy 23 = .ok (.aload_n 0, 1) := by decide +kernel
theorem dX1_copy_24 : decode cX1_copy 24 = .ok (.getfield 169, 3) := by decide +kernel
theorem dX1_copy_27 : decode cX1_copy 27 = .ok (.aload_n 0, 1) := by decide +kernel
theorem dX1_copy_28 : decode cX1_copy 28 = .ok (.getfield 40, 3) := by decide +kernel
theorem dX1_copy_31 : decode cX1_copy 31 = .ok (.iload_n 1, 1) := by decide +kernel
theorem dX1_copy_32 : decode cX1_copy 32 = .ok (.iaload, 1) := by decide +kernel
theorem dX1_copy_33 : decode cX1_copy 33 = .ok (.iastore, 1) := by decide +kernel
theorem dX1_copy_34 : decode cX1_copy 34 = .ok (.iconst 0, 1) := by decide +kernel
theorem dX1_copy_35 : decode cX1_copy 35 = .ok (.istore_n 2, 1) := by decide +kernel
theorem dX1_copy_36 : decode cX1_copy 36 = .ok (.iload_n 2, 1) := by decide +kernel
theorem dX1_copy_37 : decode cX1_copy 37 = .ok (.aload_n 0, 1) := by decide +kernel
theorem dX1_copy_38 : decode cX1_copy 38 = .ok (.getfield 40, 3) := by decide +kernel
theorem dX1_copy_41 : decode cX1_copy 41 = .ok (.iload_n 1, 1) := by decide +kernel
theorem dX1_copy_42 : decode cX1_copy 42 = .ok (.iaload, 1) := by decide +kernel
theorem dX1_copy_43 : decode cX1_copy 43 = .ok (.if_icmp .ge 29, 3) := by decide +kernel
theorem dX1_copy_46 : decode cX1_copy 46 = .ok (.aload_n 0, 1) := by decide +kernel
theorem dX1_copy_47 : decode cX1_copy 47 = .ok (.getfield 37, 3) := by decide +kernel
theorem dX1_copy_50 : decode cX1_copy 50 = .ok (.bipush 60, 2) := by decide +kernel
theorem dX1_copy_52 : decode cX1_copy 52 = .ok (.aload_n 0, 1) := by decide +kernel
theorem dX1_copy_53 : decode cX1_copy 53 = .ok (.getfield 169, 3) := by decide +kernel
theorem dX1_copy_56 : decode cX1_copy 56 = .ok (.imul, 1) := by decide +kernel
theorem dX1_copy_57 : decode cX1_copy 57 = .ok (.iload_n 2, 1) := by decide +kernel
theorem dX1_copy_58 : decode cX1_copy 58 = .ok (.iadd, 1) := by decide +kernel
theorem dX1_copy_59 : decode cX1_copy 59 = .ok (.aload_n 0, 1) := by decide +kernel
theorem dX1_copy_60 : decode cX1_copy 60 = .ok (.iload_n 1, 1) := by decide +kernel
theorem dX1_copy_61 : decode cX1_copy 61 = .ok (.iload_n 2, 1) := by decide +kernel
theorem dX1_copy_62 : decode cX1_copy 62 = .ok (.invokevirtual 175, 3) := by decide +kernel
theorem dX1_copy_65 : decode cX1_copy 65 = .ok (.iastore, 1) := by decide +kernel
theorem dX1_copy_66 : decode cX1_copy 66 = .ok (.iinc 2 1, 3) := by decide +kernel
theorem dX1_copy_69 : decode cX1_copy 69 = .ok (.goto (-33), 3) := by decide +kernel
theorem dX1_copy_72 : decode cX1_copy 72 = .ok (.aload_n 0, 1) := by decide +kernel
theorem dX1_copy_73 : decode cX1_copy 73 = .ok (.dup, 1) := by decide +kernel
theorem dX1_copy_74 : decode cX1_copy 74 = .ok (.getfield 169, 3) := by decide +kernel
theorem dX1_copy_77 : decode cX1_copy 77 = .ok (.iconst 1, 1) := by decide +kernel
theorem dX1_copy_78 : decode cX1_copy 78 = .ok (.iadd, 1) := by decide +kernel
theorem dX1_copy_79 : decode cX1_copy 79 = .ok (.putfield 169, 3) := by decide +kernel
theorem dX1_copy_82 : decode cX1_copy 82 = .ok (.aload_n 0, 1) := by decide +kernel
theorem dX1_copy_83 : decode cX1_copy 83 = .ok (.getfield 169, 3) := by decide +kernel
theorem dX1_copy_86 : decode cX1_copy 86 = .ok (.iconst 1, 1) := by decide +kernel
theorem dX1_copy_87 : decode cX1_copy 87 = .ok (.isub, 1) := by decide +kernel
theorem dX1_copy_88 : decode cX1_copy 88 = .ok (.ireturn, 1) := by decide +kernel
theorem dX1_region_0 : decode cX1_region 0 = .ok (.aload_n 0, 1) := by decide +kernel
theorem dX1_region_1 : decode cX1_region 1 = .ok (.iload_n 1, 1) := by decide +kernel
theorem dX1_region_2 : decode cX1_region 2 = .ok (.invokevirtual 187, 3) := by decide +kernel
theorem dX1_region_5 : decode cX1_region 5 = .ok (.ifCond .eq 29, 3) := by decide +kernel
theorem dX1_region_8 : decode cX1_region 8 = .ok (.iload 4, 2) := by decide +kernel
theorem dX1_region_10 : decode cX1_region 10 = .ok (.iconst 1, 1) := by decide +kernel
theorem dX1_region_11 : decode cX1_region 11 = .ok (.if_icmp .lt 23, 3) := by decide +kernel
theorem dX1_region_14 : decode cX1_region 14 = .ok (.iload 4, 2) := by decide +kernel
theorem dX1_region_16 : decode cX1_region 16 = .ok (.bipush 20, 2) := by decide +kernel
theorem dX1_region_18 : decode cX1_region 18 = .ok (.if_icmp .gt 16, 3) := by decide +kernel
theorem dX1_region_21 : decode cX1_region 21 = .ok (.iload 5, 2) := by decide +kernel
theorem dX1_region_23 : decode cX1_region 23 = .ok (.iconst 1, 1) := by decide +kernel
theorem dX1_region_24 : decode cX1_region 24 = .ok (.if_icmp .lt 10, 3) := by decide +kernel
theorem dX1_region_27 : decode cX1_region 27 = .ok (.iload 5, 2) := by decide +kernel
theorem dX1_region_29 : decode cX1_region 29 = .ok (.bipush 20, 2) := by decide +kernel
theorem dX1_region_31 : decode cX1_region 31 = .ok (.if_icmp .le 5, 3) := by decide +kernel
theorem dX1_region_34 : decode cX1_region 34 = .ok (.iconst (-1), 1) := by decide +kernel
theorem dX1_region_35 : decode cX1_region 35 = .ok (.ireturn, 1) := by decide +kernel
theorem dX1_region_36 : decode cX1_region 36 = .ok (.aload_n 0, 1) := by decide +kernel
theorem dX1_region_37 : decode cX1_region 37 = .ok (.iload 4, 2) := by decide +kernel
theorem dX1_region_39 : decode cX1_region 39 = .ok (.putfield 221, 3) := by decide +kernel
theorem dX1_region_42 : decode cX1_region 42 = .ok (.aload_n 0, 1) := by decide +kernel
theorem dX1_region_43 : decode cX1_region 43 = .ok (.iload 5, 2) := by decide +kernel
theorem dX1_region_45 : decode cX1_region 45 = .ok (.putfield 224, 3) := by decide +kernel
theorem dX1_region_48 : decode cX1_region 48 = .ok (.iconst 0, 1) := by decide +kernel
theorem dX1_region_49 : decode cX1_region 49 = .ok (.istore 6, 2) := by decide +kernel
theorem dX1_region_51 : decode cX1_region 51 = .ok (.iconst 0, 1) := by decide +kernel
theorem dX1_region_52 : decode cX1_region 52 = .ok (.istore 7, 2) := by decide +kernel
theorem dX1_region_54 : decode cX1_region 54 = .ok (.iload 7, 2) := by decide +kernel
theorem dX1_region_56 : decode cX1_region 56 = .ok (.iload 4, 2) := by decide +kernel
theorem dX1_region_58 : decode cX1_region 58 = .ok (.iload 5, 2) := by decide +kernel
theorem dX1_region_60 : decode cX1_region 60 = .ok (.imul, 1) := by decide +kernel
theorem dX1_region_61 : decode cX1_region 61 = .ok (.if_icmp .ge 99, 3) := by decide +kernel
theorem dX1_region_64 : decode cX1_region 64 = .ok (.iload_n 2, 1) := by decide +kernel
theorem dX1_region_65 : decode cX1_region 65 = .ok (.i2l, 1) := by decide +kernel
theorem dX1_region_66 : decode cX1_region 66 = .ok (.iload 7, 2) := by decide +kernel
theorem dX1_region_68 : decode cX1_region 68 = .ok (.iload 5, 2) := by decide +kernel
theorem dX1_region_70 : decode cX1_region 70 = .ok (.idiv, 1) := by decide +kernel
theorem dX1_region_71 : decode cX1_region 71 = .ok (.i2l, 1) := by decide +kernel
theorem dX1_region_72 : decode cX1_region 72 = .ok (.ladd, 1) := by decide +kernel
theorem dX1_region_73 : decode cX1_region 73 = .ok (.lstore 8, 2) := by decide +kernel
theorem dX1_region_75 : decode cX1_region 75 = .ok (.iload_n 3, 1) := by decide +kernel
theorem dX1_region_76 : decode cX1_region 76 = .ok (.i2l, 1) := by decide +kernel
theorem dX1_region_77 : decode cX1_region 77 = .ok (.iload 7, 2) := by decide +kernel
theorem dX1_region_79 : decode cX1_region 79 = .ok (.iload 5, 2) := by decide +kernel
theorem dX1_region_81 : decode cX1_region 81 = .ok (.irem, 1) := by decide +kernel
theorem dX1_region_82 : decode cX1_region 82 = .ok (.i2l, 1) := by decide +kernel
theorem dX1_region_83 : decode cX1_region 83 = .ok (.ladd, 1) := by decide +kernel
theorem dX1_region_84 : decode cX1_region 84 = .ok (.lstore 10, 2) := by decide +kernel
theorem dX1_region_86 : decode cX1_region 86 = .ok (.aload_n 0, 1) := by decide +kernel
theorem dX1_region_87 : decode cX1_region 87 = .ok (.getfield 58, 3) := by decide +kernel
theorem dX1_region_90 : decode cX1_region 90 = .ok (.iload 7, 2) := by decide +kernel
theorem dX1_region_92 : decode cX1_region 92 = .ok (.aload_n 0, 1) := by decide +kernel
theorem dX1_region_93 : decode cX1_region 93 = .ok (.iload_n 1, 1) := by decide +kernel
theorem dX1_region_94 : decode cX1_region 94 = .ok (.lload 8, 2) := by decide +kernel
theorem dX1_region_96 : decode cX1_region 96 = .ok (.lload 10, 2) := by decide +kernel
theorem dX1_region_98 : decode cX1_region 98 = .ok (.invokevirtual 204, 3) := by decide +kernel
theorem dX1_region_101 : decode cX1_region 101 = .ok (.bastore, 1) := by decide +kernel
theorem dX1_region_102 : decode cX1_region 102 = .ok (.aload_n 0, 1) := by decide +kernel
theorem dX1_region_103 : decode cX1_region 103 = .ok (.getfield 52, 3) := by decide +kernel
theorem dX1_region_106 : decode cX1_region 106 = .ok (.iload 7, 2) := by decide +kernel
theorem dX1_region_108 : decode cX1_region 108 = .ok (.aload_n 0, 1) := by decide +kernel
theorem dX1_region_109 : decode cX1_region 109 = .ok (.getfield 58, 3) := by decide +kernel
theorem dX1_region_112 : decode cX1_region 112 = .ok (.iload 7, 2) := by decide +kernel
theorem dX1_region_114 : decode cX1_region 114 = .ok (.baload, 1) := by decide +kernel
theorem dX1_region_115 : decode cX1_region 115 = .ok (.ifCond .eq 17, 3) := by decide +kernel
theorem dX1_region_118 : decode cX1_region 118 = .ok (.aload_n 0, 1) := by decide +kernel
theorem dX1_region_119 : decode cX1_region 119 = .ok (.iload_n 1, 1) := by decide +kernel
theorem dX1_region_120 : decode cX1_region 120 = .ok (.lload 8, 2) := by decide +kernel
theorem dX1_region_122 : decode cX1_region 122 = .ok (.l2i, 1) := by decide +kernel
theorem dX1_region_123 : decode cX1_region 123 = .ok (.lload 10, 2) := by decide +kernel
theorem dX1_region_125 : decode cX1_region 125 = .ok (.l2i, 1) := by decide +kernel
theorem dX1_region_126 : decode cX1_region 126 = .ok (.invokevirtual 212, 3) := by decide +kernel
theorem dX1_region_129 : decode cX1_region 129 = .ok (.goto 4, 3) := by decide +kernel
theorem dX1_region_132 : decode cX1_region 132 = .ok (.iconst 0, 1) := by decide +kernel
theorem dX1_region_133 : decode cX1_region 133 = .ok (.iastore, 1) := by decide +kernel
theorem dX1_region_134 : decode cX1_region 134 = .ok (.iload 6, 2) := by decide +kernel
theorem dX1_region_136 : decode cX1_region 136 = .ok (.aload_n 0, 1) := by decide +kernel
theorem dX1_region_137 : decode cX1_region 137 = .ok (.getfield 52, 3) := by decide +kernel
theorem dX1_region_140 : decode cX1_region 140 = .ok (.iload 7, 2) := by decide +kernel
theorem dX1_region_142 : decode cX1_region 142 = .ok (.iaload, 1) := by decide +kernel
theorem dX1_region_143 : decode cX1_region 143 = .ok (.ifCond .eq 7, 3) := by decide +kernel
theorem dX1_region_146 : decode cX1_region 146 = .ok (.iconst 1, 1) := by decide +kernel
theorem dX1_region_147 : decode cX1_region 147 = .ok (.goto 4, 3) := by decide +kernel
theorem dX1_region_150 : decode cX1_region 150 = .ok (.iconst 0, 1) := by decide +kernel
theorem dX1_region_151 : decode cX1_region 151 = .ok (.iadd, 1) := by decide +kernel
theorem dX1_region_152 : decode cX1_region 152 = .ok (.istore 6, 2) := by decide +kernel
theorem dX1_region_154 : decode cX1_region 154 = .ok (.iinc 7 1, 3) := by decide +kernel
theorem dX1_region_157 : decode cX1_region 157 = .ok (.goto (-103), 3) := by decide +kernel
theorem dX1_region_160 : decode cX1_region 160 = .ok (.iload 6, 2) := by decide +kernel
theorem dX1_region_162 : decode cX1_region 162 = .ok (.ireturn, 1) := by decide +kernel
theorem dX1_turn_0 : decode cX1_turn 0 = .ok (.aload_n 0, 1) := by decide +kernel
theorem dX1_turn_1 : decode cX1_turn 1 = .ok (.getfield 221, 3) := by decide +kernel
theorem dX1_turn_4 : decode cX1_turn 4 = .ok (.ifCond .eq 10, 3) := by decide +kernel
theorem dX1_turn_7 : decode cX1_turn 7 = .ok (.iload_n 1, 1) := by decide +kernel
theorem dX1_turn_8 : decode cX1_turn 8 = .ok (.invokestatic 137, 3) := by decide +kernel
theorem dX1_turn_11 : decode cX1_turn 11 = .ok (.ifCond .ne 5, 3) := by decide +kernel
theorem dX1_turn_14 : decode cX1_turn 14 = .ok (.iconst 0, 1) := by decide +kernel
theorem dX1_turn_15 : decode cX1_turn 15 = .ok (.ireturn, 1) := by decide +kernel
theorem dX1_turn_16 : decode cX1_turn 16 = .ok (.iload_n 1, 1) := by decide +kernel
theorem dX1_turn_17 : decode cX1_turn 17 = .ok (.iconst 1, 1) := by decide +kernel
theorem dX1_turn_18 : decode cX1_turn 18 = .ok (.iand, 1) := by decide +kernel
theorem dX1_turn_19 : decode cX1_turn 19 = .ok (.ifCond .ne 10, 3) := by decide +kernel
theorem dX1_turn_22 : decode cX1_turn 22 = .ok (.aload_n 0, 1) := by decide +kernel
theorem dX1_turn_23 : decode cX1_turn 23 = .ok (.getfield 221, 3) := by decide +kernel
theorem dX1_turn_26 : decode cX1_turn 26 = .ok (.goto 7, 3) := by decide +kernel
theorem dX1_turn_29 : decode cX1_turn 29 = .ok (.aload_n 0, 1) := by decide +kernel
theorem dX1_turn_30 : decode cX1_turn 30 = .ok (.getfield 224, 3) := by decide +kernel
theorem dX1_turn_33 : decode cX1_turn 33 = .ok (.istore_n 2, 1) := by decide +kernel
theorem dX1_turn_34 : decode cX1_turn 34 = .ok (.iload_n 1, 1) := by decide +kernel
theorem dX1_turn_35 : decode cX1_turn 35 = .ok (.iconst 1, 1) := by decide +kernel
theorem dX1_turn_36 : decode cX1_turn 36 = .ok (.iand, 1) := by decide +kernel
theorem dX1_turn_37 : decode cX1_turn 37 = .ok (.ifCond .ne 10, 3) := by decide +kernel
theorem dX1_turn_40 : decode cX1_turn 40 = .ok (.aload_n 0, 1) := by decide +kernel
theorem dX1_turn_41 : decode cX1_turn 41 = .ok (.getfield 224, 3) := by decide +kernel
theorem dX1_turn_44 : decode cX1_turn 44 = .ok (.goto 7, 3) := by decide +kernel
theorem dX1_turn_47 : decode cX1_turn 47 = .ok (.aload_n 0, 1) := by decide +kernel
theorem dX1_turn_48 : decode cX1_turn 48 = .ok (.getfield 221, 3) := by decide +kernel
theorem dX1_turn_51 : decode cX1_turn 51 = .ok (.istore_n 3, 1) := by decide +kernel
theorem dX1_turn_52 : decode cX1_turn 52 = .ok (.iconst 0, 1) := by decide +kernel
theorem dX1_turn_53 : decode cX1_turn 53 = .ok (.istore 4, 2) := by decide +kernel
theorem dX1_turn_55 : decode cX1_turn 55 = .ok (.iload 4, 2) := by decide +kernel
theorem dX1_turn_57 : decode cX1_turn 57 = .ok (.iload_n 2, 1) := by decide +kernel
theorem dX1_turn_58 : decode cX1_turn 58 = .ok (.iload_n 3, 1) := by decide +kernel
theorem dX1_turn_59 : decode cX1_turn 59 = .ok (.imul, 1) := by decide +kernel
theorem dX1_turn_60 : decode cX1_turn 60 = .ok (.if_icmp .ge 79, 3) := by decide +kernel
theorem dX1_turn_63 : decode cX1_turn 63 = .ok (.aload_n 0, 1) := by decide +kernel
theorem dX1_turn_64 : decode cX1_turn 64 = .ok (.iload_n 1, 1) := by decide +kernel
theorem dX1_turn_65 : decode cX1_turn 65 = .ok (.aload_n 0, 1) := by decide +kernel
theorem dX1_turn_66 : decode cX1_turn 66 = .ok (.getfield 221, 3) := by decide +kernel
theorem dX1_turn_69 : decode cX1_turn 69 = .ok (.aload_n 0, 1) := by decide +kernel
theorem dX1_turn_70 : decode cX1_turn 70 = .ok (.getfield 224, 3) := by decide +kernel
theorem dX1_turn_73 : decode cX1_turn 73 = .ok (.iload 4, 2) := by decide +kernel
theorem dX1_turn_75 : decode cX1_turn 75 = .ok (.iload_n 3, 1) := by decide +kernel
theorem dX1_turn_76 : decode cX1_turn 76 = .ok (.idiv, 1) := by decide +kernel
theorem dX1_turn_77 : decode cX1_turn 77 = .ok (.iload 4, 2) := by decide +kernel
theorem dX1_turn_79 : decode cX1_turn 79 = .ok (.iload_n 3, 1) := by decide +kernel
theorem dX1_turn_80 : decode cX1_turn 80 = .ok (.irem, 1) := by decide +kernel
theorem dX1_turn_81 : decode cX1_turn 81 = .ok (.invokevirtual 227, 3) := by decide +kernel
theorem dX1_turn_84 : decode cX1_turn 84 = .ok (.aload_n 0, 1) := by decide +kernel
theorem dX1_turn_85 : decode cX1_turn 85 = .ok (.getfield 215, 3) := by decide +kernel
theorem dX1_turn_88 : decode cX1_turn 88 = .ok (.aload_n 0, 1) := by decide +kernel
theorem dX1_turn_89 : decode cX1_turn 89 = .ok (.getfield 224, 3) := by decide +kernel
theorem dX1_turn_92 : decode cX1_turn 92 = .ok (.imul, 1) := by decide +kernel
theorem dX1_turn_93 : decode cX1_turn 93 = .ok (.aload_n 0, 1) := by decide +kernel
theorem dX1_turn_94 : decode cX1_turn 94 = .ok (.getfield 218, 3) := by decide +kernel
theorem dX1_turn_97 : decode cX1_turn 97 = .ok (.iadd, 1) := by decide +kernel
theorem dX1_turn_98 : decode cX1_turn 98 = .ok (.istore 5, 2) := by decide +kernel
theorem dX1_turn_100 : decode cX1_turn 100 = .ok (.aload_n 0, 1) := by decide +kernel
theorem dX1_turn_101 : decode cX1_turn 101 = .ok (.getfield 55, 3) := by decide +kernel
theorem dX1_turn_104 : decode cX1_turn 104 = .ok (.iload 4, 2) := by decide +kernel
theorem dX1_turn_106 : decode cX1_turn 106 = .ok (.aload_n 0, 1) := by decide +kernel
theorem dX1_turn_107 : decode cX1_turn 107 = .ok (.aload_n 0, 1) := by decide +kernel
theorem dX1_turn_108 : decode cX1_turn 108 = .ok (.getfield 52, 3) := by decide +kernel
theorem dX1_turn_111 : decode cX1_turn 111 = .ok (.iload 5, 2) := by decide +kernel
theorem dX1_turn_113 : decode cX1_turn 113 = .ok (.iaload, 1) := by decide +kernel
theorem dX1_turn_114 : decode cX1_turn 114 = .ok (.iload_n 1, 1) := by decide +kernel
theorem dX1_turn_115 : decode cX1_turn 115 = .ok (.invokevirtual 231, 3) := by decide +kernel
theorem dX1_turn_118 : decode cX1_turn 118 = .ok (.iastore, 1) := by decide +kernel
theorem dX1_turn_119 : decode cX1_turn 119 = .ok (.aload_n 0, 1) := by decide +kernel
theorem dX1_turn_120 : decode cX1_turn 120 = .ok (.getfield 61, 3) := by decide +kernel
theorem dX1_turn_123 : decode cX1_turn 123 = .ok (.iload 4, 2) := by decide +kernel
theorem dX1_turn_125 : decode cX1_turn 125 = .ok (.aload_n 0, 1) := by decide +kernel
theorem dX1_turn_126 : decode cX1_turn 126 = .ok (.getfield 58, 3) := by decide +kernel
theorem dX1_turn_129 : decode cX1_turn 129 = .ok (.iload 5, 2) := by decide +kernel
theorem dX1_turn_131 : decode cX1_turn 131 = .ok (.baload, 1) := by decide +kernel
theorem dX1_turn_132 : decode cX1_turn 132 = .ok (.bastore, 1) := by decide +kernel
theorem dX1_turn_133 : decode cX1_turn 133 = .ok (.iinc 4 1, 3) := by decide +kernel
theorem dX1_turn_136 : decode cX1_turn 136 = .ok (.goto (-81), 3) := by decide +kernel
theorem dX1_turn_139 : decode cX1_turn 139 = .ok (.iconst 0, 1) := by decide +kernel
theorem dX1_turn_140 : decode cX1_turn 140 = .ok (.istore 4, 2) := by decide +kernel
theorem dX1_turn_142 : decode cX1_turn 142 = .ok (.iload 4, 2) := by decide +kernel
theorem dX1_turn_144 : decode cX1_turn 144 = .ok (.iload_n 2, 1) := by decide +kernel
theorem dX1_turn_145 : decode cX1_turn 145 = .ok (.iload_n 3, 1) := by decide +kernel
theorem dX1_turn_146 : decode cX1_turn 146 = .ok (.imul, 1) := by decide +kernel
theorem dX1_turn_147 : decode cX1_turn 147 = .ok (.if_icmp .ge 37, 3) := by decide +kernel
theorem dX1_turn_150 : decode cX1_turn 150 = .ok (.aload_n 0, 1) := by decide +kernel
theorem dX1_turn_151 : decode cX1_turn 151 = .ok (.getfield 52, 3) := by decide +kernel
theorem dX1_turn_154 : decode cX1_turn 154 = .ok (.iload 4, 2) := by decide +kernel
theorem dX1_turn_156 : decode cX1_turn 156 = .ok (.aload_n 0, 1) := by decide +kernel
theorem dX1_turn_157 : decode cX1_turn 157 = .ok (.getfield 55, 3) := by decide +kernel
theorem dX1_turn_160 : decode cX1_turn 160 = .ok (.iload 4, 2) := by decide +kernel
theorem dX1_turn_162 : decode cX1_turn 162 = .ok (.iaload, 1) := by decide +kernel
theorem dX1_turn_163 : decode cX1_turn 163 = .ok (.iastore, 1) := by decide +kernel
theorem dX1_turn_164 : decode cX1_turn 164 = .ok (.aload_n 0, 1) := by decide +kernel
theorem dX1_turn_165 : decode cX1_turn 165 = .ok (.getfield 58, 3) := by decide +kernel
theorem dX1_turn_168 : decode cX1_turn 168 = .ok (.iload 4, 2) := by decide +kernel
theorem dX1_turn_170 : decode cX1_turn 170 = .ok (.aload_n 0, 1) := by decide +kernel
theorem dX1_turn_171 : decode cX1_turn 171 = .ok (.getfield 61, 3) := by decide +kernel
theorem dX1_turn_174 : decode cX1_turn 174 = .ok (.iload 4, 2) := by decide +kernel
theorem dX1_turn_176 : decode cX1_turn 176 = .ok (.baload, 1) := by decide +kernel
theorem dX1_turn_177 : decode cX1_turn 177 = .ok (.bastore, 1) := by decide +kernel
theorem dX1_turn_178 : decode cX1_turn 178 = .ok (.iinc 4 1, 3) := by decide +kernel
theorem dX1_turn_181 : decode cX1_turn 181 = .ok (.goto (-39), 3) := by decide +kernel
theorem dX1_turn_184 : decode cX1_turn 184 = .ok (.aload_n 0, 1) := by decide +kernel
theorem dX1_turn_185 : decode cX1_turn 185 = .ok (.iload_n 2, 1) := by decide +kernel
theorem dX1_turn_186 : decode cX1_turn 186 = .ok (.putfield 221, 3) := by decide +kernel
theorem dX1_turn_189 : decode cX1_turn 189 = .ok (.aload_n 0, 1) := by decide +kernel
theorem dX1_turn_190 : decode cX1_turn 190 = .ok (.iload_n 3, 1) := by decide +kernel
theorem dX1_turn_191 : decode cX1_turn 191 = .ok (.putfield 224, 3) := by decide +kernel
theorem dX1_turn_194 : decode cX1_turn 194 = .ok (.iconst 1, 1) := by decide +kernel
theorem dX1_turn_195 : decode cX1_turn 195 = .ok (.ireturn, 1) := by decide +kernel
theorem dX1_comesFrom_0 : decode cX1_comesFrom 0 = .ok (.iload_n 1, 1) := by decide +kernel
theorem dX1_comesFrom_1 : decode cX1_comesFrom 1 = .ok (.iconst 3, 1) := by decide +kernel
theorem dX1_comesFrom_2 : decode cX1_comesFrom 2 = .ok (.iand, 1) := by decide +kernel
theorem dX1_comesFrom_3 : decode cX1_comesFrom 3 = .ok (.istore 6, 2) := by decide +kernel
theorem dX1_comesFrom_5 : decode cX1_comesFrom 5 = .ok (.aload_n 0, 1) := by decide +kernel
theorem dX1_comesFrom_6 : decode cX1_comesFrom 6 = .ok (.iload 6, 2) := by decide +kernel
theorem dX1_comesFrom_8 : decode cX1_comesFrom 8 = .ok (.ifCond .ne 8, 3) := by decide +kernel
theorem dX1_comesFrom_11 : decode cX1_comesFrom 11 = .ok (.iload 4, 2) := by decide +kernel
theorem dX1_comesFrom_13 : decode cX1_comesFrom 13 = .ok (.goto 35, 3) := by decide +kernel
theorem dX1_comesFrom_16 : decode cX1_comesFrom 16 = .ok (.iload 6, 2) := by decide +kernel
theorem dX1_comesFrom_18 : decode cX1_comesFrom 18 = .ok (.iconst 1, 1) := by decide +kernel
theorem dX1_comesFrom_19 : decode cX1_comesFrom 19 = .ok (.if_icmp .ne 12, 3) := by decide +kernel
theorem dX1_comesFrom_22 : decode cX1_comesFrom 22 = .ok (.iload_n 2, 1) := by decide +kernel
theorem dX1_comesFrom_23 : decode cX1_comesFrom 23 = .ok (.iconst 1, 1) := by decide +kernel
theorem dX1_comesFrom_24 : decode cX1_comesFrom 24 = .ok (.isub, 1) := by decide +kernel
theorem dX1_comesFrom_25 : decode cX1_comesFrom 25 = .ok (.iload 5, 2) := by decide +kernel
theorem dX1_comesFrom_27 : decode cX1_comesFrom 27 = .ok (.isub, 1) := by decide +kernel
theorem dX1_comesFrom_28 : decode cX1_comesFrom 28 = .ok (.goto 20, 3) := by decide +kernel
theorem dX1_comesFrom_31 : decode cX1_comesFrom 31 = .ok (.iload 6, 2) := by decide +kernel
theorem dX1_comesFrom_33 : decode cX1_comesFrom 33 = .ok (.iconst 2, 1) := by decide +kernel
theorem dX1_comesFrom_34 : decode cX1_comesFrom 34 = .ok (.if_icmp .ne 12, 3) := by decide +kernel
theorem dX1_comesFrom_37 : decode cX1_comesFrom 37 = .ok (.iload_n 2, 1) := by decide +kernel
theorem dX1_comesFrom_38 : decode cX1_comesFrom 38 = .ok (.iconst 1, 1) := by decide +kernel
theorem dX1_comesFrom_39 : decode cX1_comesFrom 39 = .ok (.isub, 1) := by decide +kernel
theorem dX1_comesFrom_40 : decode cX1_comesFrom 40 = .ok (.iload 4, 2) := by decide +kernel
theorem dX1_comesFrom_42 : decode cX1_comesFrom 42 = .ok (.isub, 1) := by decide +kernel
theorem dX1_comesFrom_43 : decode cX1_comesFrom 43 = .ok (.goto 5, 3) := by decide +kernel
theorem dX1_comesFrom_46 : decode cX1_comesFrom 46 = .ok (.iload 5, 2) := by decide +kernel
theorem dX1_comesFrom_48 : decode cX1_comesFrom 48 = .ok (.putfield 215, 3) := by decide +kernel
theorem dX1_comesFrom_51 : decode cX1_comesFrom 51 = .ok (.aload_n 0, 1) := by decide +kernel
theorem dX1_comesFrom_52 : decode cX1_comesFrom 52 = .ok (.iload 6, 2) := by decide +kernel
theorem dX1_comesFrom_54 : decode cX1_comesFrom 54 = .ok (.ifCond .ne 8, 3) := by decide +kernel
theorem dX1_comesFrom_57 : decode cX1_comesFrom 57 = .ok (.iload 5, 2) := by decide +kernel
theorem dX1_comesFrom_59 : decode cX1_comesFrom 59 = .ok (.goto 35, 3) := by decide +kernel
theorem dX1_comesFrom_62 : decode cX1_comesFrom 62 = .ok (.iload 6, 2) := by decide +kernel
theorem dX1_comesFrom_64 : decode cX1_comesFrom 64 = .ok (.iconst 1, 1) := by decide +kernel
theorem dX1_comesFrom_65 : decode cX1_comesFrom 65 = .ok (.if_icmp .ne 8, 3) := by decide +kernel
theorem dX1_comesFrom_68 : decode cX1_comesFrom 68 = .ok (.iload 4, 2) := by decide +kernel
theorem dX1_comesFrom_70 : decode cX1_comesFrom 70 = .ok (.goto 24, 3) := by decide +kernel
theorem dX1_comesFrom_73 : decode cX1_comesFrom 73 = .ok (.iload 6, 2) := by decide +kernel
theorem dX1_comesFrom_75 : decode cX1_comesFrom 75 = .ok (.iconst 2, 1) := by decide +kernel
theorem dX1_comesFrom_76 : decode cX1_comesFrom 76 = .ok (.if_icmp .ne 12, 3) := by decide +kernel
theorem dX1_comesFrom_79 : decode cX1_comesFrom 79 = .ok (.iload_n 3, 1) := by decide +kernel
theorem dX1_comesFrom_80 : decode cX1_comesFrom 80 = .ok (.iconst 1, 1) := by decide +kernel
theorem dX1_comesFrom_81 : decode cX1_comesFrom 81 = .ok (.isub, 1) := by decide +kernel
theorem dX1_comesFrom_82 : decode cX1_comesFrom 82 = .ok (.iload 5, 2) := by decide +kernel
theorem dX1_comesFrom_84 : decode cX1_comesFrom 84 = .ok (.isub, 1) := by decide +kernel
theorem dX1_comesFrom_85 : decode cX1_comesFrom 85 = .ok (.goto 9, 3) := by decide +kernel
theorem dX1_comesFrom_88 : decode cX1_comesFrom 88 = .ok (.iload_n 3, 1) := by decide +kernel
theorem dX1_comesFrom_89 : decode cX1_comesFrom 89 = .ok (.iconst 1, 1) := by decide +kernel
theorem dX1_comesFrom_90 : decode cX1_comesFrom 90 = .ok (.isub, 1) := by decide +kernel
theorem dX1_comesFrom_91 : decode cX1_comesFrom 91 = .ok (.iload 4, 2) := by decide +kernel
theorem dX1_comesFrom_93 : decode cX1_comesFrom 93 = .ok (.isub, 1) := by decide +kernel
theorem dX1_comesFrom_94 : decode cX1_comesFrom 94 = .ok (.putfield 218, 3) := by decide +kernel
theorem dX1_comesFrom_97 : decode cX1_comesFrom 97 = .ok (.iload_n 1, 1) := by decide +kernel
theorem dX1_comesFrom_98 : decode cX1_comesFrom 98 = .ok (.iconst 4, 1) := by decide +kernel
theorem dX1_comesFrom_99 : decode cX1_comesFrom 99 = .ok (.iand, 1) := by decide +kernel
theorem dX1_comesFrom_100 : decode cX1_comesFrom 100 = .ok (.ifCond .eq 15, 3) := by decide +kernel
theorem dX1_comesFrom_103 : decode cX1_comesFrom 103 = .ok (.aload_n 0, 1) := by decide +kernel
theorem dX1_comesFrom_104 : decode cX1_comesFrom 104 = .ok (.iload_n 3, 1) := by decide +kernel
theorem dX1_comesFrom_105 : decode cX1_comesFrom 105 = .ok (.iconst 1, 1) := by decide +kernel
theorem dX1_comesFrom_106 : decode cX1_comesFrom 106 = .ok (.isub, 1) := by decide +kernel
theorem dX1_comesFrom_107 : decode cX1_comesFrom 107 = .ok (.aload_n 0, 1) := by decide +kernel
theorem dX1_comesFrom_108 : decode cX1_comesFrom 108 = .ok (.getfield 218, 3) := by decide +kernel
theorem dX1_comesFrom_111 : decode cX1_comesFrom 111 = .ok (.isub, 1) := by decide +kernel
theorem dX1_comesFrom_112 : decode cX1_comesFrom 112 = .ok (.putfield 218, 3) := by decide +kernel
theorem dX1_comesFrom_115 : decode cX1_comesFrom 115 = .ok (.return_, 1) := by decide +kernel
theorem dX1_moved_0 : decode cX1_moved 0 = .ok (.iload_n 1, 1) := by decide +kernel
theorem dX1_moved_1 : decode cX1_moved 1 = .ok (.ifCond .ne 7, 3) := by decide +kernel
theorem dX1_moved_4 : decode cX1_moved 4 = .ok (.iconst 0, 1) := by decide +kernel
theorem dX1_moved_5 : decode cX1_moved 5 = .ok (.goto 30, 3) := by decide +kernel
theorem dX1_moved_8 : decode cX1_moved 8 = .ok (.iload_n 1, 1) := by decide +kernel
theorem dX1_moved_9 : decode cX1_moved 9 = .ok (.invokestatic 156, 3) := by decide +kernel
theorem dX1_moved_12 : decode cX1_moved 12 = .ok (.aload_n 0, 1) := by decide +kernel
theorem dX1_moved_13 : decode cX1_moved 13 = .ok (.iload_n 1, 1) := by decide +kernel
theorem dX1_moved_14 : decode cX1_moved 14 = .ok (.invokestatic 156, 3) := by decide +kernel
theorem dX1_moved_17 : decode cX1_moved 17 = .ok (.iload_n 1, 1) := by decide +kernel
theorem dX1_moved_18 : decode cX1_moved 18 = .ok (.invokestatic 160, 3) := by decide +kernel
theorem dX1_moved_21 : decode cX1_moved 21 = .ok (.iload_n 2, 1) := by decide +kernel
theorem dX1_moved_22 : decode cX1_moved 22 = .ok (.invokestatic 141, 3) := by decide +kernel
theorem dX1_moved_25 : decode cX1_moved 25 = .ok (.invokevirtual 148, 3) := by decide +kernel
theorem dX1_moved_28 : decode cX1_moved 28 = .ok (.iload_n 1, 1) := by decide +kernel
theorem dX1_moved_29 : decode cX1_moved 29 = .ok (.invokestatic 163, 3) := by decide +kernel
theorem dX1_moved_32 : decode cX1_moved 32 = .ok (.invokestatic 166, 3) := by decide +kernel
theorem dX1_moved_35 : decode cX1_moved 35 = .ok (.ireturn, 1) := by decide +kernel
theorem dX1_paste_0 : decode cX1_paste 0 = .ok (.aload_n 0, 1) := by decide +kernel
theorem dX1_paste_1 : decode cX1_paste 1 = .ok (.iload_n 1, 1) := by decide +kernel
theorem dX1_paste_2 : decode cX1_paste 2 = .ok (.invokevirtual 187, 3) := by decide +kernel
theorem dX1_paste_5 : decode cX1_paste 5 = .ok (.ifCond .eq 10, 3) := by decide +kernel
theorem dX1_paste_8 : decode cX1_paste 8 = .ok (.aload_n 0, 1) := by decide +kernel
theorem dX1_paste_9 : decode cX1_paste 9 = .ok (.getfield 221, 3) := by decide +kernel
theorem dX1_paste_12 : decode cX1_paste 12 = .ok (.ifCond .ne 5, 3) := by decide +kernel
theorem dX1_paste_15 : decode cX1_paste 15 = .ok (.iconst (-1), 1) := by decide +kernel
theorem dX1_paste_16 : decode cX1_paste 16 = .ok (.ireturn, 1) := by decide +kernel
theorem dX1_paste_17 : decode cX1_paste 17 = .ok (.iconst 0, 1) := by decide +kernel
theorem dX1_paste_18 : decode cX1_paste 18 = .ok (.istore 4, 2) := by decide +kernel
theorem dX1_paste_20 : decode cX1_paste 20 = .ok (.iconst 0, 1) := by decide +kernel
theorem dX1_paste_21 : decode cX1_paste 21 = .ok (.istore 5, 2) := by decide +kernel
theorem dX1_paste_23 : decode cX1_paste 23 = .ok (.iload 5, 2) := by decide +kernel
theorem dX1_paste_25 : decode cX1_paste 25 = .ok (.aload_n 0, 1) := by decide +kernel
theorem dX1_paste_26 : decode cX1_paste 26 = .ok (.getfield 221, 3) := by decide +kernel
theorem dX1_paste_29 : decode cX1_paste 29 = .ok (.if_icmp .ge 31, 3) := by decide +kernel
theorem dX1_paste_32 : decode cX1_paste 32 = .ok (.iload 4, 2) := by decide +kernel
theorem dX1_paste_34 : decode cX1_paste 34 = .ok (.aload_n 0, 1) := by decide +kernel
theorem dX1_paste_35 : decode cX1_paste 35 = .ok (.iload_n 1, 1) := by decide +kernel
theorem dX1_paste_36 : decode cX1_paste 36 = .ok (.iload_n 2, 1) := by decide +kernel
theorem dX1_paste_37 : decode cX1_paste 37 = .ok (.iload_n 3, 1) := by decide +kernel
theorem dX1_paste_38 : decode cX1_paste 38 = .ok (.iload 5, 2) := by decide +kernel
theorem dX1_paste_40 : decode cX1_paste 40 = .ok (.invokevirtual 234, 3) := by decide +kernel
theorem dX1_paste_43 : decode cX1_paste 43 = .ok (.ifCond .le 7, 3) := by decide +kernel
theorem dX1_paste_46 : decode cX1_paste 46 = .ok (.iconst 1, 1) := by decide +kernel
theorem dX1_paste_47 : decode cX1_paste 47 = .ok (.goto 4, 3) := by decide +kernel
theorem dX1_paste_50 : decode cX1_paste 50 = .ok (.iconst 0, 1) := by decide +kernel
theorem dX1_paste_51 : decode cX1_paste 51 = .ok (.iadd, 1) := by decide +kernel
theorem dX1_paste_52 : decode cX1_paste 52 = .ok (.istore 4, 2) := by decide +kernel
theorem dX1_paste_54 : decode cX1_paste 54 = .ok (.iinc 5 1, 3) := by decide +kernel
theorem dX1_paste_57 : decode cX1_paste 57 = .ok (.goto (-34), 3) := by decide +kernel
theorem dX1_paste_60 : decode cX1_paste 60 = .ok (.iload 4, 2) := by decide +kernel
theorem dX1_paste_62 : decode cX1_paste 62 = .ok (.ifCond .ne 5, 3) := by decide +kernel
theorem dX1_paste_65 : decode cX1_paste 65 = .ok (.iconst 0, 1) := by decide +kernel
theorem dX1_paste_66 : decode cX1_paste 66 = .ok (.ireturn, 1) := by decide +kernel
theorem dX1_paste_67 : decode cX1_paste 67 = .ok (.iload 4, 2) := by decide +kernel
theorem dX1_paste_69 : decode cX1_paste 69 = .ok (.sipush 6000, 3) := by decide +kernel
theorem dX1_paste_72 : decode cX1_paste 72 = .ok (.aload_n 0, 1) := by decide +kernel
theorem dX1_paste_73 : decode cX1_paste 73 = .ok (.getfield 172, 3) := by decide +kernel
theorem dX1_paste_76 : decode cX1_paste 76 = .ok (.isub, 1) := by decide +kernel
theorem dX1_paste_77 : decode cX1_paste 77 = .ok (.if_icmp .le 5, 3) := by decide +kernel
theorem dX1_paste_80 : decode cX1_paste 80 = .ok (.iconst (-1), 1) := by decide +kernel
theorem dX1_paste_81 : decode cX1_paste 81 = .ok (.ireturn, 1) := by decide +kernel
theorem dX1_paste_82 : decode cX1_paste 82 = .ok (.aload_n 0, 1) := by decide +kernel
theorem dX1_paste_83 : decode cX1_paste 83 = .ok (.iload_n 1, 1) := by decide +kernel
theorem dX1_paste_84 : decode cX1_paste 84 = .ok (.invokevirtual 190, 3) := by decide +kernel
theorem dX1_paste_87 : decode cX1_paste 87 = .ok (.iconst 0, 1) := by decide +kernel
theorem dX1_paste_88 : decode cX1_paste 88 = .ok (.istore 5, 2) := by decide +kernel
theorem dX1_paste_90 : decode cX1_paste 90 = .ok (.iconst 0, 1) := by decide +kernel
theorem dX1_paste_91 : decode cX1_paste 91 = .ok (.istore 6, 2) := by decide +kernel
theorem dX1_paste_93 : decode cX1_paste 93 = .ok (.iload 6, 2) := by decide +kernel
theorem dX1_paste_95 : decode cX1_paste 95 = .ok (.aload_n 0, 1) := by decide +kernel
theorem dX1_paste_96 : decode cX1_paste 96 = .ok (.getfield 221, 3) := by decide +kernel
theorem dX1_paste_99 : decode cX1_paste 99 = .ok (.if_icmp .ge 133, 3) := by decide +kernel
theorem dX1_paste_102 : decode cX1_paste 102 = .ok (.aload_n 0, 1) := by decide +kernel
theorem dX1_paste_103 : decode cX1_paste 103 = .ok (.iload_n 1, 1) := by decide +kernel
theorem dX1_paste_104 : decode cX1_paste 104 = .ok (.iload_n 2, 1) := by decide +kernel
theorem dX1_paste_105 : decode cX1_paste 105 = .ok (.iload_n 3, 1) := by decide +kernel
theorem dX1_paste_106 : decode cX1_paste 106 = .ok (.iload 6, 2) := by decide +kernel
theorem dX1_paste_108 : decode cX1_paste 108 = .ok (.invokevirtual 234, 3) := by decide +kernel
theorem dX1_paste_111 : decode cX1_paste 111 = .ok (.istore 7, 2) := by decide +kernel
theorem dX1_paste_113 : decode cX1_paste 113 = .ok (.iload 7, 2) := by decide +kernel
theorem dX1_paste_115 : decode cX1_paste 115 = .ok (.ifCond .ne 6, 3) := by decide +kernel
theorem dX1_paste_118 : decode cX1_paste 118 = .ok (.goto 108, 3) := by decide +kernel
theorem dX1_paste_121 : decode cX1_paste 121 = .ok (.iload 5, 2) := by decide +kernel
theorem dX1_paste_123 : decode cX1_paste 123 = .ok (.iload 7, 2) := by decide +kernel
theorem dX1_paste_125 : decode cX1_paste 125 = .ok (.iadd, 1) := by decide +kernel
theorem dX1_paste_126 : decode cX1_paste 126 = .ok (.istore 5, 2) := by decide +kernel
theorem dX1_paste_128 : decode cX1_paste 128 = .ok (.aload_n 0, 1) := by decide +kernel
theorem dX1_paste_129 : decode cX1_paste 129 = .ok (.iload_n 1, 1) := by decide +kernel
theorem dX1_paste_130 : decode cX1_paste 130 = .ok (.iload_n 2, 1) := by decide +kernel
theorem dX1_paste_131 : decode cX1_paste 131 = .ok (.iload 6, 2) := by decide +kernel
theorem dX1_paste_133 : decode cX1_paste 133 = .ok (.iadd, 1) := by decide +kernel
theorem dX1_paste_134 : decode cX1_paste 134 = .ok (.invokevirtual 201, 3) := by decide +kernel
theorem dX1_paste_137 : decode cX1_paste 137 = .ok (.iconst 0, 1) := by decide +kernel
theorem dX1_paste_138 : decode cX1_paste 138 = .ok (.istore 8, 2) := by decide +kernel
theorem dX1_paste_140 : decode cX1_paste 140 = .ok (.iload 8, 2) := by decide +kernel
theorem dX1_paste_142 : decode cX1_paste 142 = .ok (.aload_n 0, 1) := by decide +kernel
theorem dX1_paste_143 : decode cX1_paste 143 = .ok (.getfield 224, 3) := by decide +kernel
theorem dX1_paste_146 : decode cX1_paste 146 = .ok (.if_icmp .ge 80, 3) := by decide +kernel
theorem dX1_paste_149 : decode cX1_paste 149 = .ok (.aload_n 0, 1) := by decide +kernel
theorem dX1_paste_150 : decode cX1_paste 150 = .ok (.getfield 58, 3) := by decide +kernel
theorem dX1_paste_153 : decode cX1_paste 153 = .ok (.iload 6, 2) := by decide +kernel
theorem dX1_paste_155 : decode cX1_paste 155 = .ok (.aload_n 0, 1) := by decide +kernel
theorem dX1_paste_156 : decode cX1_paste 156 = .ok (.getfield 224, 3) := by decide +kernel
theorem dX1_paste_159 : decode cX1_paste 159 = .ok (.imul, 1) := by decide +kernel
theorem dX1_paste_160 : decode cX1_paste 160 = .ok (.iload 8, 2) := by decide +kernel
theorem dX1_paste_162 : decode cX1_paste 162 = .ok (.iadd, 1) := by decide +kernel
theorem dX1_paste_163 : decode cX1_paste 163 = .ok (.baload, 1) := by decide +kernel
theorem dX1_paste_164 : decode cX1_paste 164 = .ok (.ifCond .eq 56, 3) := by decide +kernel
theorem dX1_paste_167 : decode cX1_paste 167 = .ok (.aload_n 0, 1) := by decide +kernel
theorem dX1_paste_168 : decode cX1_paste 168 = .ok (.iload_n 1, 1) := by decide +kernel
theorem dX1_paste_169 : decode cX1_paste 169 = .ok (.iload_n 2, 1) := by decide +kernel
theorem dX1_paste_170 : decode cX1_paste 170 = .ok (.i2l, 1) := by decide +kernel
theorem dX1_paste_171 : decode cX1_paste 171 = .ok (.iload 6, 2) := by decide +kernel
theorem dX1_paste_173 : decode cX1_paste 173 = .ok (.i2l, 1) := by decide +kernel
theorem dX1_paste_174 : decode cX1_paste 174 = .ok (.ladd, 1) := by decide +kernel
theorem dX1_paste_175 : decode cX1_paste 175 = .ok (.iload_n 3, 1) := by decide +kernel
theorem dX1_paste_176 : decode cX1_paste 176 = .ok (.i2l, 1) := by decide +kernel
theorem dX1_paste_177 : decode cX1_paste 177 = .ok (.iload 8, 2) := by decide +kernel
theorem dX1_paste_179 : decode cX1_paste 179 = .ok (.i2l, 1) := by decide +kernel
theorem dX1_paste_180 : decode cX1_paste 180 = .ok (.ladd, 1) := by decide +kernel
theorem dX1_paste_181 : decode cX1_paste 181 = .ok (.invokevirtual 204, 3) := by decide +kernel
theorem dX1_paste_184 : decode cX1_paste 184 = .ok (.ifCond .eq 36, 3) := by decide +kernel
theorem dX1_paste_187 : decode cX1_paste 187 = .ok (.aload_n 0, 1) := by decide +kernel
theorem dX1_paste_188 : decode cX1_paste 188 = .ok (.getfield 34, 3) := by decide +kernel
theorem dX1_paste_191 : decode cX1_paste 191 = .ok (.aload_n 0, 1) := by decide +kernel
theorem dX1_paste_192 : decode cX1_paste 192 = .ok (.iload_n 1, 1) := by decide +kernel
theorem dX1_paste_193 : decode cX1_paste 193 = .ok (.iload_n 2, 1) := by decide +kernel
theorem dX1_paste_194 : decode cX1_paste 194 = .ok (.iload 6, 2) := by decide +kernel
theorem dX1_paste_196 : decode cX1_paste 196 = .ok (.iadd, 1) := by decide +kernel
theorem dX1_paste_197 : decode cX1_paste 197 = .ok (.iload_n 3, 1) := by decide +kernel
theorem dX1_paste_198 : decode cX1_paste 198 = .ok (.iload 8, 2) := by decide +kernel
theorem dX1_paste_200 : decode cX1_paste 200 = .ok (.iadd, 1) := by decide +kernel
theorem dX1_paste_201 : decode cX1_paste 201 = .ok (.invokevirtual 178, 3) := by decide +kernel
theorem dX1_paste_204 : decode cX1_paste 204 = .ok (.aload_n 0, 1) := by decide +kernel
theorem dX1_paste_205 : decode cX1_paste 205 = .ok (.getfield 52, 3) := by decide +kernel
theorem dX1_paste_208 : decode cX1_paste 208 = .ok (.iload 6, 2) := by decide +kernel
theorem dX1_paste_210 : decode cX1_paste 210 = .ok (.aload_n 0, 1) := by decide +kernel
theorem dX1_paste_211 : decode cX1_paste 211 = .ok (.getfield 224, 3) := by decide +kernel
theorem dX1_paste_214 : decode cX1_paste 214 = .ok (.imul, 1) := by decide +kernel
theorem dX1_paste_215 : decode cX1_paste 215 = .ok (.iload 8, 2) := by decide +kernel
theorem dX1_paste_217 : decode cX1_paste 217 = .ok (.iadd, 1) := by decide +kernel
theorem dX1_paste_218 : decode cX1_paste 218 = .ok (.iaload, 1) := by decide +kernel
theorem dX1_paste_219 : decode cX1_paste 219 = .ok (.iastore, 1) := by decide +kernel
theorem dX1_paste_220 : decode cX1_paste 220 = .ok (.iinc 8 1, 3) := by decide +kernel
theorem dX1_paste_223 : decode cX1_paste 223 = .ok (.goto (-83), 3) := by decide +kernel
theorem dX1_paste_226 : decode cX1_paste 226 = .ok (.iinc 6 1, 3) := by decide +kernel
theorem dX1_paste_229 : decode cX1_paste 229 = .ok (.goto (-136), 3) := by decide +kernel
theorem dX1_paste_232 : decode cX1_paste 232 = .ok (.iload 5, 2) := by decide +kernel
theorem dX1_paste_234 : decode cX1_paste 234 = .ok (.ireturn, 1) := by decide +kernel
theorem dX1_comes_0 : decode cX1_comes 0 = .ok (.iconst 0, 1) := by decide +kernel
theorem dX1_comes_1 : decode cX1_comes 1 = .ok (.istore 5, 2) := by decide +kernel
theorem dX1_comes_3 : decode cX1_comes 3 = .ok (.iconst 0, 1) := by decide +kernel
theorem dX1_comes_4 : decode cX1_comes 4 = .ok (.istore 6, 2) := by decide +kernel
theorem dX1_comes_6 : decode cX1_comes 6 = .ok (.iload 6, 2) := by decide +kernel
theorem dX1_comes_8 : decode cX1_comes 8 = .ok (.aload_n 0, 1) := by decide +kernel
theorem dX1_comes_9 : decode cX1_comes 9 = .ok (.getfield 224, 3) := by decide +kernel
theorem dX1_comes_12 : decode cX1_comes 12 = .ok (.if_icmp .ge 57, 3) := by decide +kernel
theorem dX1_comes_15 : decode cX1_comes 15 = .ok (.iload 5, 2) := by decide +kernel
theorem dX1_comes_17 : decode cX1_comes 17 = .ok (.aload_n 0, 1) := by decide +kernel
theorem dX1_comes_18 : decode cX1_comes 18 = .ok (.getfield 58, 3) := by decide +kernel
theorem dX1_comes_21 : decode cX1_comes 21 = .ok (.iload 4, 2) := by decide +kernel
theorem dX1_comes_23 : decode cX1_comes 23 = .ok (.aload_n 0, 1) := by decide +kernel
theorem dX1_comes_24 : decode cX1_comes 24 = .ok (.getfield 224, 3) := by decide +kernel
theorem dX1_comes_27 : decode cX1_comes 27 = .ok (.imul, 1) := by decide +kernel
theorem dX1_comes_28 : decode cX1_comes 28 = .ok (.iload 6, 2) := by decide +kernel
theorem dX1_comes_30 : decode cX1_comes 30 = .ok (.iadd, 1) := by decide +kernel
theorem dX1_comes_31 : decode cX1_comes 31 = .ok (.baload, 1) := by decide +kernel
theorem dX1_comes_32 : decode cX1_comes 32 = .ok (.ifCond .eq 27, 3) := by decide +kernel
theorem dX1_comes_35 : decode cX1_comes 35 = .ok (.aload_n 0, 1) := by decide +kernel
theorem dX1_comes_36 : decode cX1_comes 36 = .ok (.iload_n 1, 1) := by decide +kernel
theorem dX1_comes_37 : decode cX1_comes 37 = .ok (.iload_n 2, 1) := by decide +kernel
theorem dX1_comes_38 : decode cX1_comes 38 = .ok (.i2l, 1) := by decide +kernel
theorem dX1_comes_39 : decode cX1_comes 39 = .ok (.iload 4, 2) := by decide +kernel
theorem dX1_comes_41 : decode cX1_comes 41 = .ok (.i2l, 1) := by decide +kernel
theorem dX1_comes_42 : decode cX1_comes 42 = .ok (.ladd, 1) := by decide +kernel
theorem dX1_comes_43 : decode cX1_comes 43 = .ok (.iload_n 3, 1) := by decide +kernel
theorem dX1_comes_44 : decode cX1_comes 44 = .ok (.i2l, 1) := by decide +kernel
theorem dX1_comes_45 : decode cX1_comes 45 = .ok (.iload 6, 2) := by decide +kernel
theorem dX1_comes_47 : decode cX1_comes 47 = .ok (.i2l, 1) := by decide +kernel
theorem dX1_comes_48 : decode cX1_comes 48 = .ok (.ladd, 1) := by decide +kernel
theorem dX1_comes_49 : decode cX1_comes 49 = .ok (.invokevirtual 204, 3) := by decide +kernel
theorem dX1_comes_52 : decode cX1_comes 52 = .ok (.ifCond .eq 7, 3) := by decide +kernel
theorem dX1_comes_55 : decode cX1_comes 55 = .ok (.iconst 1, 1) := by decide +kernel
theorem dX1_comes_56 : decode cX1_comes 56 = .ok (.goto 4, 3) := by decide +kernel
theorem dX1_comes_59 : decode cX1_comes 59 = .ok (.iconst 0, 1) := by decide +kernel
theorem dX1_comes_60 : decode cX1_comes 60 = .ok (.iadd, 1) := by decide +kernel
theorem dX1_comes_61 : decode cX1_comes 61 = .ok (.istore 5, 2) := by decide +kernel
theorem dX1_comes_63 : decode cX1_comes 63 = .ok (.iinc 6 1, 3) := by decide +kernel
theorem dX1_comes_66 : decode cX1_comes 66 = .ok (.goto (-60), 3) := by decide +kernel
theorem dX1_comes_69 : decode cX1_comes 69 = .ok (.iload 5, 2) := by decide +kernel
theorem dX1_comes_71 : decode cX1_comes 71 = .ok (.ireturn, 1) := by decide +kernel
theorem dX1_rule_0 : decode cX1_rule 0 = .ok (.aload_n 0, 1) := by decide +kernel
theorem dX1_rule_1 : decode cX1_rule 1 = .ok (.getfield 238, 3) := by decide +kernel
theorem dX1_rule_4 : decode cX1_rule 4 = .ok (.bipush 8, 2) := by decide +kernel
theorem dX1_rule_6 : decode cX1_rule 6 = .ok (.if_icmp .eq 23, 3) := by decide +kernel
theorem dX1_rule_9 : decode cX1_rule 9 = .ok (.iload_n 1, 1) := by decide +kernel
theorem dX1_rule_10 : decode cX1_rule 10 = .ok (.iconst 1, 1) := by decide +kernel
theorem dX1_rule_11 : decode cX1_rule 11 = .ok (.if_icmp .lt 18, 3) := by decide +kernel
theorem dX1_rule_14 : decode cX1_rule 14 = .ok (.iload_n 1, 1) := by decide +kernel
theorem dX1_rule_15 : decode cX1_rule 15 = .ok (.iconst 4, 1) := by decide +kernel
theorem dX1_rule_16 : decode cX1_rule 16 = .ok (.if_icmp .gt 13, 3) := by decide +kernel
theorem dX1_rule_19 : decode cX1_rule 19 = .ok (.iload_n 2, 1) := by decide +kernel
theorem dX1_rule_20 : decode cX1_rule 20 = .ok (.iconst 1, 1) := by decide +kernel
theorem dX1_rule_21 : decode cX1_rule 21 = .ok (.if_icmp .lt 8, 3) := by decide +kernel
theorem dX1_rule_24 : decode cX1_rule 24 = .ok (.iload_n 2, 1) := by decide +kernel
theorem dX1_rule_25 : decode cX1_rule 25 = .ok (.iconst 4, 1) := by decide +kernel
theorem dX1_rule_26 : decode cX1_rule 26 = .ok (.if_icmp .le 5, 3) := by decide +kernel
theorem dX1_rule_29 : decode cX1_rule 29 = .ok (.iconst (-1), 1) := by decide +kernel
theorem dX1_rule_30 : decode cX1_rule 30 = .ok (.ireturn, 1) := by decide +kernel
theorem dX1_rule_31 : decode cX1_rule 31 = .ok (.aload_n 0, 1) := by decide +kernel
theorem dX1_rule_32 : decode cX1_rule 32 = .ok (.getfield 64, 3) := by decide +kernel
theorem dX1_rule_35 : decode cX1_rule 35 = .ok (.aload_n 0, 1) := by decide +kernel
theorem dX1_rule_36 : decode cX1_rule 36 = .ok (.getfield 238, 3) := by decide +kernel
theorem dX1_rule_39 : decode cX1_rule 39 = .ok (.iload_n 1, 1) := by decide +kernel
theorem dX1_rule_40 : decode cX1_rule 40 = .ok (.iastore, 1) := by decide +kernel
theorem dX1_rule_41 : decode cX1_rule 41 = .ok (.aload_n 0, 1) := by decide +kernel
theorem dX1_rule_42 : decode cX1_rule 42 = .ok (.getfield 67, 3) := by decide +kernel
theorem dX1_rule_45 : decode cX1_rule 45 = .ok (.aload_n 0, 1) := by decide +kernel
theorem dX1_rule_46 : decode cX1_rule 46 = .ok (.getfield 238, 3) := by decide +kernel
theorem dX1_rule_49 : decode cX1_rule 49 = .ok (.iload_n 2, 1) := by decide +kernel
theorem dX1_rule_50 : decode cX1_rule 50 = .ok (.iastore, 1) := by decide +kernel
theorem dX1_rule_51 : decode cX1_rule 51 = .ok (.iconst 0, 1) := by decide +kernel
theorem dX1_rule_52 : decode cX1_rule 52 = .ok (.istore_n 3, 1) := by decide +kernel
theorem dX1_rule_53 : decode cX1_rule 53 = .ok (.iload_n 3, 1) := by decide +kernel
theorem dX1_rule_54 : decode cX1_rule 54 = .ok (.sipush 640, 3) := by decide +kernel
theorem dX1_rule_57 : decode cX1_rule 57 = .ok (.if_icmp .ge 25, 3) := by decide +kernel
theorem dX1_rule_60 : decode cX1_rule 60 = .ok (.aload_n 0, 1) := by decide +kernel
theorem dX1_rule_61 : decode cX1_rule 61 = .ok (.getfield 70, 3) := by decide +kernel
theorem dX1_rule_64 : decode cX1_rule 64 = .ok (.sipush 640, 3) := by decide +kernel
theorem dX1_rule_67 : decode cX1_rule 67 = .ok (.aload_n 0, 1) := by decide +kernel
theorem dX1_rule_68 : decode cX1_rule 68 = .ok (.getfield 238, 3) := by decide +kernel
theorem dX1_rule_71 : decode cX1_rule 71 = .ok (.imul, 1) := by decide +kernel
theorem dX1_rule_72 : decode cX1_rule 72 = .ok (.iload_n 3, 1) := by decide +kernel
theorem dX1_rule_73 : decode cX1_rule 73 = .ok (.iadd, 1) := by decide +kernel
theorem dX1_rule_74 : decode cX1_rule 74 = .ok (.iconst 0, 1) := by decide +kernel
theorem dX1_rule_75 : decode cX1_rule 75 = .ok (.iastore, 1) := by decide +kernel
theorem dX1_rule_76 : decode cX1_rule 76 = .ok (.iinc 3 1, 3) := by decide +kernel
theorem dX1_rule_79 : decode cX1_rule 79 = .ok (.goto (-26), 3) := by decide +kernel
theorem dX1_rule_82 : decode cX1_rule 82 = .ok (.aload_n 0, 1) := by decide +kernel
theorem dX1_rule_83 : decode cX1_rule 83 = .ok (.dup, 1) := by decide +kernel
theorem dX1_rule_84 : decode cX1_rule 84 = .ok (.getfield 238, 3) := by decide +kernel
theorem dX1_rule_87 : decode cX1_rule 87 = .ok (.iconst 1, 1) := by decide +kernel
theorem dX1_rule_88 : decode cX1_rule 88 = .ok (.iadd, 1) := by decide +kernel
theorem dX1_rule_89 : decode cX1_rule 89 = .ok (.putfield 238, 3) := by decide +kernel
theorem dX1_rule_92 : decode cX1_rule 92 = .ok (.aload_n 0, 1) := by decide +kernel
theorem dX1_rule_93 : decode cX1_rule 93 = .ok (.getfield 238, 3) := by decide +kernel
theorem dX1_rule_96 : decode cX1_rule 96 = .ok (.iconst 1, 1) := by decide +kernel
theorem dX1_rule_97 : decode cX1_rule 97 = .ok (.isub, 1) := by decide +kernel
theorem dX1_rule_98 : decode cX1_rule 98 = .ok (.ireturn, 1) := by decide +kernel
theorem dX1_becomes_0 : decode cX1_becomes 0 = .ok (.aload_n 0, 1) := by decide +kernel
theorem dX1_becomes_1 : decode cX1_becomes 1 = .ok (.iload_n 1, 1) := by decide +kernel
theorem dX1_becomes_2 : decode cX1_becomes 2 = .ok (.invokevirtual 241, 3) := by decide +kernel
theorem dX1_becomes_5 : decode cX1_becomes 5 = .ok (.ifCond .eq 64, 3) := by decide +kernel
theorem dX1_becomes_8 : decode cX1_becomes 8 = .ok (.aload_n 0, 1) := by decide +kernel
theorem dX1_becomes_9 : decode cX1_becomes 9 = .ok (.iload_n 2, 1) := by decide +kernel
theorem dX1_becomes_10 : decode cX1_becomes 10 = .ok (.invokevirtual 145, 3) := by decide +kernel
theorem dX1_becomes_13 : decode cX1_becomes 13 = .ok (.ifCond .eq 56, 3) := by decide +kernel
theorem dX1_becomes_16 : decode cX1_becomes 16 = .ok (.iload_n 3, 1) := by decide +kernel
theorem dX1_becomes_17 : decode cX1_becomes 17 = .ok (.ifCond .lt 52, 3) := by decide +kernel
theorem dX1_becomes_20 : decode cX1_becomes 20 = .ok (.iload_n 3, 1) := by decide +kernel
theorem dX1_becomes_21 : decode cX1_becomes 21 = .ok (.aload_n 0, 1) := by decide +kernel
theorem dX1_becomes_22 : decode cX1_becomes 22 = .ok (.getfield 64, 3) := by decide +kernel
theorem dX1_becomes_25 : decode cX1_becomes 25 = .ok (.iload_n 1, 1) := by decide +kernel
theorem dX1_becomes_26 : decode cX1_becomes 26 = .ok (.iaload, 1) := by decide +kernel
theorem dX1_becomes_27 : decode cX1_becomes 27 = .ok (.if_icmp .ge 42, 3) := by decide +kernel
theorem dX1_becomes_30 : decode cX1_becomes 30 = .ok (.iload 4, 2) := by decide +kernel
theorem dX1_becomes_32 : decode cX1_becomes 32 = .ok (.ifCond .lt 37, 3) := by decide +kernel
theorem dX1_becomes_35 : decode cX1_becomes 35 = .ok (.iload 4, 2) := by decide +kernel
theorem dX1_becomes_37 : decode cX1_becomes 37 = .ok (.aload_n 0, 1) := by decide +kernel
theorem dX1_becomes_38 : decode cX1_becomes 38 = .ok (.getfield 67, 3) := by decide +kernel
theorem dX1_becomes_41 : decode cX1_becomes 41 = .ok (.iload_n 1, 1) := by decide +kernel
theorem dX1_becomes_42 : decode cX1_becomes 42 = .ok (.iaload, 1) := by decide +kernel
theorem dX1_becomes_43 : decode cX1_becomes 43 = .ok (.if_icmp .ge 26, 3) := by decide +kernel
theorem dX1_becomes_46 : decode cX1_becomes 46 = .ok (.iload 5, 2) := by decide +kernel
theorem dX1_becomes_48 : decode cX1_becomes 48 = .ok (.iconst (-1), 1) := by decide +kernel
theorem dX1_becomes_49 : decode cX1_becomes 49 = .ok (.if_icmp .eq 22, 3) := by decide +kernel
theorem dX1_becomes_52 : decode cX1_becomes 52 = .ok (.aload_n 0, 1) := by decide +kernel
theorem dX1_becomes_53 : decode cX1_becomes 53 = .ok (.iload 5, 2) := by decide +kernel
theorem dX1_becomes_55 : decode cX1_becomes 55 = .ok (.invokevirtual 145, 3) := by decide +kernel
theorem dX1_becomes_58 : decode cX1_becomes 58 = .ok (.ifCond .eq 11, 3) := by decide +kernel
theorem dX1_becomes_61 : decode cX1_becomes 61 = .ok (.iload 6, 2) := by decide +kernel
theorem dX1_becomes_63 : decode cX1_becomes 63 = .ok (.invokestatic 137, 3) := by decide +kernel
theorem dX1_becomes_66 : decode cX1_becomes 66 = .ok (.ifCond .ne 5, 3) := by decide +kernel
theorem dX1_becomes_69 : decode cX1_becomes 69 = .ok (.iconst 0, 1) := by decide +kernel
theorem dX1_becomes_70 : decode cX1_becomes 70 = .ok (.ireturn, 1) := by decide +kernel
theorem dX1_becomes_71 : decode cX1_becomes 71 = .ok (.aload_n 0, 1) := by decide +kernel
theorem dX1_becomes_72 : decode cX1_becomes 72 = .ok (.getfield 70, 3) := by decide +kernel
theorem dX1_becomes_75 : decode cX1_becomes 75 = .ok (.sipush 640, 3) := by decide +kernel
theorem dX1_becomes_78 : decode cX1_becomes 78 = .ok (.iload_n 1, 1) := by decide +kernel
theorem dX1_becomes_79 : decode cX1_becomes 79 = .ok (.imul, 1) := by decide +kernel
theorem dX1_becomes_80 : decode cX1_becomes 80 = .ok (.bipush 16, 2) := by decide +kernel
theorem dX1_becomes_82 : decode cX1_becomes 82 = .ok (.iload_n 2, 1) := by decide +kernel
theorem dX1_becomes_83 : decode cX1_becomes 83 = .ok (.imul, 1) := by decide +kernel
theorem dX1_becomes_84 : decode cX1_becomes 84 = .ok (.iadd, 1) := by decide +kernel
theorem dX1_becomes_85 : decode cX1_becomes 85 = .ok (.iconst 4, 1) := by decide +kernel
theorem dX1_becomes_86 : decode cX1_becomes 86 = .ok (.iload_n 3, 1) := by decide +kernel
theorem dX1_becomes_87 : decode cX1_becomes 87 = .ok (.imul, 1) := by decide +kernel
theorem dX1_becomes_88 : decode cX1_becomes 88 = .ok (.iadd, 1) := by decide +kernel
theorem dX1_becomes_89 : decode cX1_becomes 89 = .ok (.iload 4, 2) := by decide +kernel
theorem dX1_becomes_91 : decode cX1_becomes 91 = .ok (.iadd, 1) := by decide +kernel
theorem dX1_becomes_92 : decode cX1_becomes 92 = .ok (.iload 5, 2) := by decide +kernel
theorem dX1_becomes_94 : decode cX1_becomes 94 = .ok (.iconst (-1), 1) := by decide +kernel
theorem dX1_becomes_95 : decode cX1_becomes 95 = .ok (.if_icmp .ne 7, 3) := by decide +kernel
theorem dX1_becomes_98 : decode cX1_becomes 98 = .ok (.iconst 0, 1) := by decide +kernel
theorem dX1_becomes_99 : decode cX1_becomes 99 = .ok (.goto 17, 3) := by decide +kernel
theorem dX1_becomes_102 : decode cX1_becomes 102 = .ok (.iload 5, 2) := by decide +kernel
theorem dX1_becomes_104 : decode cX1_becomes 104 = .ok (.aload_n 0, 1) := by decide +kernel
theorem dX1_becomes_105 : decode cX1_becomes 105 = .ok (.iload 5, 2) := by decide +kernel
theorem dX1_becomes_107 : decode cX1_becomes 107 = .ok (.iload 6, 2) := by decide +kernel
theorem dX1_becomes_109 : decode cX1_becomes 109 = .ok (.invokevirtual 148, 3) := by decide +kernel
theorem dX1_becomes_112 : decode cX1_becomes 112 = .ok (.iconst 0, 1) := by decide +kernel
theorem dX1_becomes_113 : decode cX1_becomes 113 = .ok (.invokestatic 166, 3) := by decide +kernel
theorem dX1_becomes_116 : decode cX1_becomes 116 = .ok (.iastore, 1) := by decide +kernel
theorem dX1_becomes_117 : decode cX1_becomes 117 = .ok (.iconst 1, 1) := by decide +kernel
theorem dX1_becomes_118 : decode cX1_becomes 118 = .ok (.ireturn, 1) := by decide +kernel
theorem dX1_isRule_0 : decode cX1_isRule 0 = .ok (.iload_n 1, 1) := by decide +kernel
theorem dX1_isRule_1 : decode cX1_isRule 1 = .ok (.ifCond .lt 15, 3) := by decide +kernel
theorem dX1_isRule_4 : decode cX1_isRule 4 = .ok (.iload_n 1, 1) := by decide +kernel
theorem dX1_isRule_5 : decode cX1_isRule 5 = .ok (.aload_n 0, 1) := by decide +kernel
theorem dX1_isRule_6 : decode cX1_isRule 6 = .ok (.getfield 238, 3) := by decide +kernel
theorem dX1_isRule_9 : decode cX1_isRule 9 = .ok (.if_icmp .ge 7, 3) := by decide +kernel
theorem dX1_isRule_12 : decode cX1_isRule 12 = .ok (.iconst 1, 1) := by decide +kernel
theorem dX1_isRule_13 : decode cX1_isRule 13 = .ok (.goto 4, 3) := by decide +kernel
theorem dX1_isRule_16 : decode cX1_isRule 16 = .ok (.iconst 0, 1) := by decide +kernel
theorem dX1_isRule_17 : decode cX1_isRule 17 = .ok (.ireturn, 1) := by decide +kernel
theorem dX1_grow_0 : decode cX1_grow 0 = .ok (.aload_n 0, 1) := by decide +kernel
theorem dX1_grow_1 : decode cX1_grow 1 = .ok (.iload_n 1, 1) := by decide +kernel
theorem dX1_grow_2 : decode cX1_grow 2 = .ok (.invokevirtual 187, 3) := by decide +kernel
theorem dX1_grow_5 : decode cX1_grow 5 = .ok (.ifCond .eq 29, 3) := by decide +kernel
theorem dX1_grow_8 : decode cX1_grow 8 = .ok (.aload_n 0, 1) := by decide +kernel
theorem dX1_grow_9 : decode cX1_grow 9 = .ok (.iload_n 2, 1) := by decide +kernel
theorem dX1_grow_10 : decode cX1_grow 10 = .ok (.invokevirtual 241, 3) := by decide +kernel
theorem dX1_grow_13 : decode cX1_grow 13 = .ok (.ifCond .eq 21, 3) := by decide +kernel
theorem dX1_grow_16 : decode cX1_grow 16 = .ok (.iload_n 3, 1) := by decide +kernel
theorem dX1_grow_17 : decode cX1_grow 17 = .ok (.ifCond .lt 17, 3) := by decide +kernel
theorem dX1_grow_20 : decode cX1_grow 20 = .ok (.iload_n 3, 1) := by decide +kernel
theorem dX1_grow_21 : decode cX1_grow 21 = .ok (.iconst 5, 1) := by decide +kernel
theorem dX1_grow_22 : decode cX1_grow 22 = .ok (.if_icmp .gt 12, 3) := by decide +kernel
theorem dX1_grow_25 : decode cX1_grow 25 = .ok (.aload_n 0, 1) := by decide +kernel
theorem dX1_grow_26 : decode cX1_grow 26 = .ok (.getfield 169, 3) := by decide +kernel
theorem dX1_grow_29 : decode cX1_grow 29 = .ok (.bipush 16, 2) := by decide +kernel
theorem dX1_grow_31 : decode cX1_grow 31 = .ok (.if_icmp .ne 5, 3) := by decide +kernel
theorem dX1_grow_34 : decode cX1_grow 34 = .ok (.iconst (-1), 1) := by decide +kernel
theorem dX1_grow_35 : decode cX1_grow 35 = .ok (.ireturn, 1) := by decide +kernel
theorem dX1_grow_36 : decode cX1_grow 36 = .ok (.aload_n 0, 1) := by decide +kernel
theorem dX1_grow_37 : decode cX1_grow 37 = .ok (.getfield 40, 3) := by decide +kernel
theorem dX1_grow_40 : decode cX1_grow 40 = .ok (.iload_n 1, 1) := by decide +kernel
theorem dX1_grow_41 : decode cX1_grow 41 = .ok (.iaload, 1) := by decide +kernel
theorem dX1_grow_42 : decode cX1_grow 42 = .ok (.istore 4, 2) := by decide +kernel
theorem dX1_grow_44 : decode cX1_grow 44 = .ok (.iconst 0, 1) := by decide +kernel
theorem dX1_grow_45 : decode cX1_grow 45 = .ok (.istore 5, 2) := by decide +kernel
theorem dX1_grow_47 : decode cX1_grow 47 = .ok (.iload 5, 2) := by decide +kernel
theorem dX1_grow_49 : decode cX1_grow 49 = .ok (.iload 4, 2) := by decide +kernel
theorem dX1_grow_51 : decode cX1_grow 51 = .ok (.if_icmp .ge 93, 3) := by decide +kernel
theorem dX1_grow_54 : decode cX1_grow 54 = .ok (.aload_n 0, 1) := by decide +kernel
theorem dX1_grow_55 : decode cX1_grow 55 = .ok (.iload_n 1, 1) := by decide +kernel
theorem dX1_grow_56 : decode cX1_grow 56 = .ok (.iload 5, 2) := by decide +kernel
theorem dX1_grow_58 : decode cX1_grow 58 = .ok (.invokevirtual 175, 3) := by decide +kernel
theorem dX1_grow_61 : decode cX1_grow 61 = .ok (.istore 6, 2) := by decide +kernel
theorem dX1_grow_63 : decode cX1_grow 63 = .ok (.aload_n 0, 1) := by decide +kernel
theorem dX1_grow_64 : decode cX1_grow 64 = .ok (.getfield 76, 3) := by decide +kernel
theorem dX1_grow_67 : decode cX1_grow 67 = .ok (.iload 5, 2) := by decide +kernel
theorem dX1_grow_69 : decode cX1_grow 69 = .ok (.aload_n 0, 1) := by decide +kernel
theorem dX1_grow_70 : decode cX1_grow 70 = .ok (.getfield 27, 3) := by decide +kernel
theorem dX1_grow_73 : decode cX1_grow 73 = .ok (.iload 6, 2) := by decide +kernel
theorem dX1_grow_75 : decode cX1_grow 75 = .ok (.iaload, 1) := by decide +kernel
theorem dX1_grow_76 : decode cX1_grow 76 = .ok (.iastore, 1) := by decide +kernel
theorem dX1_grow_77 : decode cX1_grow 77 = .ok (.aload_n 0, 1) := by decide +kernel
theorem dX1_grow_78 : decode cX1_grow 78 = .ok (.getfield 79, 3) := by decide +kernel
theorem dX1_grow_81 : decode cX1_grow 81 = .ok (.iload 5, 2) := by decide +kernel
theorem dX1_grow_83 : decode cX1_grow 83 = .ok (.aload_n 0, 1) := by decide +kernel
theorem dX1_grow_84 : decode cX1_grow 84 = .ok (.getfield 30, 3) := by decide +kernel
theorem dX1_grow_87 : decode cX1_grow 87 = .ok (.iload 6, 2) := by decide +kernel
theorem dX1_grow_89 : decode cX1_grow 89 = .ok (.iaload, 1) := by decide +kernel
theorem dX1_grow_90 : decode cX1_grow 90 = .ok (.iastore, 1) := by decide +kernel
theorem dX1_grow_91 : decode cX1_grow 91 = .ok (.iconst 0, 1) := by decide +kernel
theorem dX1_grow_92 : decode cX1_grow 92 = .ok (.istore 7, 2) := by decide +kernel
theorem dX1_grow_94 : decode cX1_grow 94 = .ok (.iload 7, 2) := by decide +kernel
theorem dX1_grow_96 : decode cX1_grow 96 = .ok (.aload_n 0, 1) := by decide +kernel
theorem dX1_grow_97 : decode cX1_grow 97 = .ok (.getfield 27, 3) := by decide +kernel
theorem dX1_grow_100 : decode cX1_grow 100 = .ok (.iload 6, 2) := by decide +kernel
theorem dX1_grow_102 : decode cX1_grow 102 = .ok (.iaload, 1) := by decide +kernel
theorem dX1_grow_103 : decode cX1_grow 103 = .ok (.if_icmp .ge 35, 3) := by decide +kernel
theorem dX1_grow_106 : decode cX1_grow 106 = .ok (.aload_n 0, 1) := by decide +kernel
theorem dX1_grow_107 : decode cX1_grow 107 = .ok (.getfield 73, 3) := by decide +kernel
theorem dX1_grow_110 : decode cX1_grow 110 = .ok (.bipush 60, 2) := by decide +kernel
theorem dX1_grow_112 : decode cX1_grow 112 = .ok (.iload 5, 2) := by decide +kernel
theorem dX1_grow_114 : decode cX1_grow 114 = .ok (.imul, 1) := by decide +kernel
theorem dX1_grow_115 : decode cX1_grow 115 = .ok (.iload 7, 2) := by decide +kernel
theorem dX1_grow_117 : decode cX1_grow 117 = .ok (.iadd, 1) := by decide +kernel
theorem dX1_grow_118 : decode cX1_grow 118 = .ok (.aload_n 0, 1) := by decide +kernel
theorem dX1_grow_119 : decode cX1_grow 119 = .ok (.getfield 34, 3) := by decide +kernel
theorem dX1_grow_122 : decode cX1_grow 122 = .ok (.bipush 60, 2) := by decide +kernel
theorem dX1_grow_124 : decode cX1_grow 124 = .ok (.iload 6, 2) := by decide +kernel
theorem dX1_grow_126 : decode cX1_grow 126 = .ok (.imul, 1) := by decide +kernel
theorem dX1_grow_127 : decode cX1_grow 127 = .ok (.iload 7, 2) := by decide +kernel
theorem dX1_grow_129 : decode cX1_grow 129 = .ok (.iadd, 1) := by decide +kernel
theorem dX1_grow_130 : decode cX1_grow 130 = .ok (.iaload, 1) := by decide +kernel
theorem dX1_grow_131 : decode cX1_grow 131 = .ok (.iastore, 1) := by decide +kernel
theorem dX1_grow_132 : decode cX1_grow 132 = .ok (.iinc 7 1, 3) := by decide +kernel
theorem dX1_grow_135 : decode cX1_grow 135 = .ok (.goto (-41), 3) := by decide +kernel
theorem dX1_grow_138 : decode cX1_grow 138 = .ok (.iinc 5 1, 3) := by decide +kernel
theorem dX1_grow_141 : decode cX1_grow 141 = .ok (.goto (-94), 3) := by decide +kernel
theorem dX1_grow_144 : decode cX1_grow 144 = .ok (.iconst 0, 1) := by decide +kernel
theorem dX1_grow_145 : decode cX1_grow 145 = .ok (.istore 5, 2) := by decide +kernel
theorem dX1_grow_147 : decode cX1_grow 147 = .ok (.iconst 0, 1) := by decide +kernel
theorem dX1_grow_148 : decode cX1_grow 148 = .ok (.istore 6, 2) := by decide +kernel
theorem dX1_grow_150 : decode cX1_grow 150 = .ok (.iload 6, 2) := by decide +kernel
theorem dX1_grow_152 : decode cX1_grow 152 = .ok (.iload_n 3, 1) := by decide +kernel
theorem dX1_grow_153 : decode cX1_grow 153 = .ok (.if_icmp .ge 40, 3) := by decide +kernel
theorem dX1_grow_156 : decode cX1_grow 156 = .ok (.aload_n 0, 1) := by decide +kernel
theorem dX1_grow_157 : decode cX1_grow 157 = .ok (.iload_n 2, 1) := by decide +kernel
theorem dX1_grow_158 : decode cX1_grow 158 = .ok (.iload 5, 2) := by decide +kernel
theorem dX1_grow_160 : decode cX1_grow 160 = .ok (.iload 4, 2) := by decide +kernel
theorem dX1_grow_162 : decode cX1_grow 162 = .ok (.invokevirtual 244, 3) := by decide +kernel
theorem dX1_grow_165 : decode cX1_grow 165 = .ok (.ifCond .ne 5, 3) := by decide +kernel
theorem dX1_grow_168 : decode cX1_grow 168 = .ok (.iconst (-1), 1) := by decide +kernel
theorem dX1_grow_169 : decode cX1_grow 169 = .ok (.ireturn, 1) := by decide +kernel
theorem dX1_grow_170 : decode cX1_grow 170 = .ok (.iload 4, 2) := by decide +kernel
theorem dX1_grow_172 : decode cX1_grow 172 = .ok (.aload_n 0, 1) := by decide +kernel
theorem dX1_grow_173 : decode cX1_grow 173 = .ok (.getfield 64, 3) := by decide +kernel
theorem dX1_grow_176 : decode cX1_grow 176 = .ok (.iload_n 2, 1) := by decide +kernel
theorem dX1_grow_177 : decode cX1_grow 177 = .ok (.iaload, 1) := by decide +kernel
theorem dX1_grow_178 : decode cX1_grow 178 = .ok (.imul, 1) := by decide +kernel
theorem dX1_grow_179 : decode cX1_grow 179 = .ok (.istore 4, 2) := by decide +kernel
theorem dX1_grow_181 : decode cX1_grow 181 = .ok (.iconst 1, 1) := by decide +kernel
theorem dX1_grow_182 : decode cX1_grow 182 = .ok (.iload 5, 2) := by decide +kernel
theorem dX1_grow_184 : decode cX1_grow 184 = .ok (.isub, 1) := by decide +kernel
theorem dX1_grow_185 : decode cX1_grow 185 = .ok (.istore 5, 2) := by decide +kernel
theorem dX1_grow_187 : decode cX1_grow 187 = .ok (.iinc 6 1, 3) := by decide +kernel
theorem dX1_grow_190 : decode cX1_grow 190 = .ok (.goto (-40), 3) := by decide +kernel
theorem dX1_grow_193 : decode cX1_grow 193 = .ok (.iload 4, 2) := by decide +kernel
theorem dX1_grow_195 : decode cX1_grow 195 = .ok (.sipush 6000, 3) := by decide +kernel
theorem dX1_grow_198 : decode cX1_grow 198 = .ok (.aload_n 0, 1) := by decide +kernel
theorem dX1_grow_199 : decode cX1_grow 199 = .ok (.getfield 172, 3) := by decide +kernel
theorem dX1_grow_202 : decode cX1_grow 202 = .ok (.isub, 1) := by decide +kernel
theorem dX1_grow_203 : decode cX1_grow 203 = .ok (.if_icmp .le 5, 3) := by decide +kernel
theorem dX1_grow_206 : decode cX1_grow 206 = .ok (.iconst (-1), 1) := by decide +kernel
theorem dX1_grow_207 : decode cX1_grow 207 = .ok (.ireturn, 1) := by decide +kernel
theorem dX1_grow_208 : decode cX1_grow 208 = .ok (.aload_n 0, 1) := by decide +kernel
theorem dX1_grow_209 : decode cX1_grow 209 = .ok (.invokevirtual 248, 3) := by decide +kernel
theorem dX1_grow_212 : decode cX1_grow 212 = .ok (.istore 6, 2) := by decide +kernel
theorem dX1_grow_214 : decode cX1_grow 214 = .ok (.aload_n 0, 1) := by decide +kernel
theorem dX1_grow_215 : decode cX1_grow 215 = .ok (.getfield 40, 3) := by decide +kernel
theorem dX1_grow_218 : decode cX1_grow 218 = .ok (.iload 6, 2) := by decide +kernel
theorem dX1_grow_220 : decode cX1_grow 220 = .ok (.iload 4, 2) := by decide +kernel
theorem dX1_grow_222 : decode cX1_grow 222 = .ok (.iastore, 1) := by decide +kernel
theorem dX1_grow_223 : decode cX1_grow 223 = .ok (.iconst 0, 1) := by decide +kernel
theorem dX1_grow_224 : decode cX1_grow 224 = .ok (.istore 7, 2) := by decide +kernel
theorem dX1_grow_226 : decode cX1_grow 226 = .ok (.iload 7, 2) := by decide +kernel
theorem dX1_grow_228 : decode cX1_grow 228 = .ok (.iload 4, 2) := by decide +kernel
theorem dX1_grow_230 : decode cX1_grow 230 = .ok (.if_icmp .ge 101, 3) := by decide +kernel
theorem dX1_grow_233 : decode cX1_grow 233 = .ok (.bipush 60, 2) := by decide +kernel
theorem dX1_grow_235 : decode cX1_grow 235 = .ok (.iload 5, 2) := by decide +kernel
theorem dX1_grow_237 : decode cX1_grow 237 = .ok (.imul, 1) := by decide +kernel
theorem dX1_grow_238 : decode cX1_grow 238 = .ok (.iload 7, 2) := by decide +kernel
theorem dX1_grow_240 : decode cX1_grow 240 = .ok (.iadd, 1) := by decide +kernel
theorem dX1_grow_241 : decode cX1_grow 241 = .ok (.istore 8, 2) := by decide +kernel
theorem dX1_grow_243 : decode cX1_grow 243 = .ok (.aload_n 0, 1) := by decide +kernel
theorem dX1_grow_244 : decode cX1_grow 244 = .ok (.aload_n 0, 1) := by decide +kernel
theorem dX1_grow_245 : decode cX1_grow 245 = .ok (.getfield 76, 3) := by decide +kernel
theorem dX1_grow_248 : decode cX1_grow 248 = .ok (.iload 8, 2) := by decide +kernel
theorem dX1_grow_250 : decode cX1_grow 250 = .ok (.iaload, 1) := by decide +kernel
theorem dX1_grow_251 : decode cX1_grow 251 = .ok (.aload_n 0, 1) := by decide +kernel
theorem dX1_grow_252 : decode cX1_grow 252 = .ok (.getfield 79, 3) := by decide +kernel
theorem dX1_grow_255 : decode cX1_grow 255 = .ok (.iload 8, 2) := by decide +kernel
theorem dX1_grow_257 : decode cX1_grow 257 = .ok (.iaload, 1) := by decide +kernel
theorem dX1_grow_258 : decode cX1_grow 258 = .ok (.invokevirtual 194, 3) := by decide +kernel
theorem dX1_grow_261 : decode cX1_grow 261 = .ok (.istore 9, 2) := by decide +kernel
theorem dX1_grow_263 : decode cX1_grow 263 = .ok (.iconst 0, 1) := by decide +kernel
theorem dX1_grow_264 : decode cX1_grow 264 = .ok (.istore 10, 2) := by decide +kernel
theorem dX1_grow_266 : decode cX1_grow 266 = .ok (.iload 10, 2) := by decide +kernel
theorem dX1_grow_268 : decode cX1_grow 268 = .ok (.aload_n 0, 1) := by decide +kernel
theorem dX1_grow_269 : decode cX1_grow 269 = .ok (.getfield 76, 3) := by decide +kernel
theorem dX1_grow_272 : decode cX1_grow 272 = .ok (.iload 8, 2) := by decide +kernel
theorem dX1_grow_274 : decode cX1_grow 274 = .ok (.iaload, 1) := by decide +kernel
theorem dX1_grow_275 : decode cX1_grow 275 = .ok (.if_icmp .ge 35, 3) := by decide +kernel
theorem dX1_grow_278 : decode cX1_grow 278 = .ok (.aload_n 0, 1) := by decide +kernel
theorem dX1_grow_279 : decode cX1_grow 279 = .ok (.getfield 34, 3) := by decide +kernel
theorem dX1_grow_282 : decode cX1_grow 282 = .ok (.bipush 60, 2) := by decide +kernel
theorem dX1_grow_284 : decode cX1_grow 284 = .ok (.iload 9, 2) := by decide +kernel
theorem dX1_grow_286 : decode cX1_grow 286 = .ok (.imul, 1) := by decide +kernel
theorem dX1_grow_287 : decode cX1_grow 287 = .ok (.iload 10, 2) := by decide +kernel
theorem dX1_grow_289 : decode cX1_grow 289 = .ok (.iadd, 1) := by decide +kernel
theorem dX1_grow_290 : decode cX1_grow 290 = .ok (.aload_n 0, 1) := by decide +kernel
theorem dX1_grow_291 : decode cX1_grow 291 = .ok (.getfield 73, 3) := by decide +kernel
theorem dX1_grow_294 : decode cX1_grow 294 = .ok (.bipush 60, 2) := by decide +kernel
theorem dX1_grow_296 : decode cX1_grow 296 = .ok (.iload 8, 2) := by decide +kernel
theorem dX1_grow_298 : decode cX1_grow 298 = .ok (.imul, 1) := by decide +kernel
theorem dX1_grow_299 : decode cX1_grow 299 = .ok (.iload 10, 2) := by decide +kernel
theorem dX1_grow_301 : decode cX1_grow 301 = .ok (.iadd, 1) := by decide +kernel
theorem dX1_grow_302 : decode cX1_grow 302 = .ok (.iaload, 1) := by decide +kernel
theorem dX1_grow_303 : decode cX1_grow 303 = .ok (.iastore, 1) := by decide +kernel
theorem dX1_grow_304 : decode cX1_grow 304 = .ok (.iinc 10 1, 3) := by decide +kernel
theorem dX1_grow_307 : decode cX1_grow 307 = .ok (.goto (-41), 3) := by decide +kernel
theorem dX1_grow_310 : decode cX1_grow 310 = .ok (.aload_n 0, 1) := by decide +kernel
theorem dX1_grow_311 : decode cX1_grow 311 = .ok (.getfield 37, 3) := by decide +kernel
theorem dX1_grow_314 : decode cX1_grow 314 = .ok (.bipush 60, 2) := by decide +kernel
theorem dX1_grow_316 : decode cX1_grow 316 = .ok (.iload 6, 2) := by decide +kernel
theorem dX1_grow_318 : decode cX1_grow 318 = .ok (.imul, 1) := by decide +kernel
theorem dX1_grow_319 : decode cX1_grow 319 = .ok (.iload 7, 2) := by decide +kernel
theorem dX1_grow_321 : decode cX1_grow 321 = .ok (.iadd, 1) := by decide +kernel
theorem dX1_grow_322 : decode cX1_grow 322 = .ok (.iload 9, 2) := by decide +kernel
theorem dX1_grow_324 : decode cX1_grow 324 = .ok (.iastore, 1) := by decide +kernel
theorem dX1_grow_325 : decode cX1_grow 325 = .ok (.iinc 7 1, 3) := by decide +kernel
theorem dX1_grow_328 : decode cX1_grow 328 = .ok (.goto (-102), 3) := by decide +kernel
theorem dX1_grow_331 : decode cX1_grow 331 = .ok (.iload 6, 2) := by decide +kernel
theorem dX1_grow_333 : decode cX1_grow 333 = .ok (.ireturn, 1) := by decide +kernel
theorem dX1_grown_0 : decode cX1_grown 0 = .ok (.aload_n 0, 1) := by decide +kernel
theorem dX1_grown_1 : decode cX1_grown 1 = .ok (.getfield 64, 3) := by decide +kernel
theorem dX1_grown_4 : decode cX1_grown 4 = .ok (.iload_n 1, 1) := by decide +kernel
theorem dX1_grown_5 : decode cX1_grown 5 = .ok (.iaload, 1) := by decide +kernel
theorem dX1_grown_6 : decode cX1_grown 6 = .ok (.istore 4, 2) := by decide +kernel
theorem dX1_grown_8 : decode cX1_grown 8 = .ok (.aload_n 0, 1) := by decide +kernel
theorem dX1_grown_9 : decode cX1_grown 9 = .ok (.getfield 67, 3) := by decide +kernel
theorem dX1_grown_12 : decode cX1_grown 12 = .ok (.iload_n 1, 1) := by decide +kernel
theorem dX1_grown_13 : decode cX1_grown 13 = .ok (.iaload, 1) := by decide +kernel
theorem dX1_grown_14 : decode cX1_grown 14 = .ok (.istore 5, 2) := by decide +kernel
theorem dX1_grown_16 : decode cX1_grown 16 = .ok (.iload_n 3, 1) := by decide +kernel
theorem dX1_grown_17 : decode cX1_grown 17 = .ok (.iload 4, 2) := by decide +kernel
theorem dX1_grown_19 : decode cX1_grown 19 = .ok (.imul, 1) := by decide +kernel
theorem dX1_grown_20 : decode cX1_grown 20 = .ok (.bipush 60, 2) := by decide +kernel
theorem dX1_grown_22 : decode cX1_grown 22 = .ok (.if_icmp .le 5, 3) := by decide +kernel
theorem dX1_grown_25 : decode cX1_grown 25 = .ok (.iconst 0, 1) := by decide +kernel
theorem dX1_grown_26 : decode cX1_grown 26 = .ok (.ireturn, 1) := by decide +kernel
theorem dX1_grown_27 : decode cX1_grown 27 = .ok (.iconst 0, 1) := by decide +kernel
theorem dX1_grown_28 : decode cX1_grown 28 = .ok (.istore 6, 2) := by decide +kernel
theorem dX1_grown_30 : decode cX1_grown 30 = .ok (.iload 6, 2) := by decide +kernel
theorem dX1_grown_32 : decode cX1_grown 32 = .ok (.iload_n 3, 1) := by decide +kernel
theorem dX1_grown_33 : decode cX1_grown 33 = .ok (.if_icmp .ge 259, 3) := by decide +kernel
theorem dX1_grown_36 : decode cX1_grown 36 = .ok (.bipush 60, 2) := by decide +kernel
theorem dX1_grown_38 : decode cX1_grown 38 = .ok (.iload_n 2, 1) := by decide +kernel
theorem dX1_grown_39 : decode cX1_grown 39 = .ok (.imul, 1) := by decide +kernel
theorem dX1_grown_40 : decode cX1_grown 40 = .ok (.iload 6, 2) := by decide +kernel
theorem dX1_grown_42 : decode cX1_grown 42 = .ok (.iadd, 1) := by decide +kernel
theorem dX1_grown_43 : decode cX1_grown 43 = .ok (.istore 7, 2) := by decide +kernel
theorem dX1_grown_45 : decode cX1_grown 45 = .ok (.aload_n 0, 1) := by decide +kernel
theorem dX1_grown_46 : decode cX1_grown 46 = .ok (.getfield 79, 3) := by decide +kernel
theorem dX1_grown_49 : decode cX1_grown 49 = .ok (.iload 7, 2) := by decide +kernel
theorem dX1_grown_51 : decode cX1_grown 51 = .ok (.iaload, 1) := by decide +kernel
theorem dX1_grown_52 : decode cX1_grown 52 = .ok (.iload 5, 2) := by decide +kernel
theorem dX1_grown_54 : decode cX1_grown 54 = .ok (.imul, 1) := by decide +kernel
theorem dX1_grown_55 : decode cX1_grown 55 = .ok (.istore 8, 2) := by decide +kernel
theorem dX1_grown_57 : decode cX1_grown 57 = .ok (.aload_n 0, 1) := by decide +kernel
theorem dX1_grown_58 : decode cX1_grown 58 = .ok (.getfield 76, 3) := by decide +kernel
theorem dX1_grown_61 : decode cX1_grown 61 = .ok (.iload 7, 2) := by decide +kernel
theorem dX1_grown_63 : decode cX1_grown 63 = .ok (.iaload, 1) := by decide +kernel
theorem dX1_grown_64 : decode cX1_grown 64 = .ok (.iload 5, 2) := by decide +kernel
theorem dX1_grown_66 : decode cX1_grown 66 = .ok (.imul, 1) := by decide +kernel
theorem dX1_grown_67 : decode cX1_grown 67 = .ok (.bipush 60, 2) := by decide +kernel
theorem dX1_grown_69 : decode cX1_grown 69 = .ok (.if_icmp .gt 17, 3) := by decide +kernel
theorem dX1_grown_72 : decode cX1_grown 72 = .ok (.iload 8, 2) := by decide +kernel
theorem dX1_grown_74 : decode cX1_grown 74 = .ok (.bipush (-30), 2) := by decide +kernel
theorem dX1_grown_76 : decode cX1_grown 76 = .ok (.if_icmp .lt 10, 3) := by decide +kernel
theorem dX1_grown_79 : decode cX1_grown 79 = .ok (.iload 8, 2) := by decide +kernel
theorem dX1_grown_81 : decode cX1_grown 81 = .ok (.bipush 30, 2) := by decide +kernel
theorem dX1_grown_83 : decode cX1_grown 83 = .ok (.if_icmp .le 5, 3) := by decide +kernel
theorem dX1_grown_86 : decode cX1_grown 86 = .ok (.iconst 0, 1) := by decide +kernel
theorem dX1_grown_87 : decode cX1_grown 87 = .ok (.ireturn, 1) := by decide +kernel
theorem dX1_grown_88 : decode cX1_grown 88 = .ok (.iconst 0, 1) := by decide +kernel
theorem dX1_grown_89 : decode cX1_grown 89 = .ok (.istore 9, 2) := by decide +kernel
theorem dX1_grown_91 : decode cX1_grown 91 = .ok (.iload 9, 2) := by decide +kernel
theorem dX1_grown_93 : decode cX1_grown 93 = .ok (.aload_n 0, 1) := by decide +kernel
theorem dX1_grown_94 : decode cX1_grown 94 = .ok (.getfield 76, 3) := by decide +kernel
theorem dX1_grown_97 : decode cX1_grown 97 = .ok (.iload 7, 2) := by decide +kernel
theorem dX1_grown_99 : decode cX1_grown 99 = .ok (.iaload, 1) := by decide +kernel
theorem dX1_grown_100 : decode cX1_grown 100 = .ok (.if_icmp .ge 127, 3) := by decide +kernel
theorem dX1_grown_103 : decode cX1_grown 103 = .ok (.aload_n 0, 1) := by decide +kernel
theorem dX1_grown_104 : decode cX1_grown 104 = .ok (.getfield 73, 3) := by decide +kernel
theorem dX1_grown_107 : decode cX1_grown 107 = .ok (.bipush 60, 2) := by decide +kernel
theorem dX1_grown_109 : decode cX1_grown 109 = .ok (.iload 7, 2) := by decide +kernel
theorem dX1_grown_111 : decode cX1_grown 111 = .ok (.imul, 1) := by decide +kernel
theorem dX1_grown_112 : decode cX1_grown 112 = .ok (.iload 9, 2) := by decide +kernel
theorem dX1_grown_114 : decode cX1_grown 114 = .ok (.iadd, 1) := by decide +kernel
theorem dX1_grown_115 : decode cX1_grown 115 = .ok (.iaload, 1) := by decide +kernel
theorem dX1_grown_116 : decode cX1_grown 116 = .ok (.istore 10, 2) := by decide +kernel
theorem dX1_grown_118 : decode cX1_grown 118 = .ok (.iload 10, 2) := by decide +kernel
theorem dX1_grown_120 : decode cX1_grown 120 = .ok (.ifCond .eq 23, 3) := by decide +kernel
theorem dX1_grown_123 : decode cX1_grown 123 = .ok (.iload 10, 2) := by decide +kernel
theorem dX1_grown_125 : decode cX1_grown 125 = .ok (.invokestatic 160, 3) := by decide +kernel
theorem dX1_grown_128 : decode cX1_grown 128 = .ok (.iconst 1, 1) := by decide +kernel
theorem dX1_grown_129 : decode cX1_grown 129 = .ok (.iand, 1) := by decide +kernel
theorem dX1_grown_130 : decode cX1_grown 130 = .ok (.iconst 1, 1) := by decide +kernel
theorem dX1_grown_131 : decode cX1_grown 131 = .ok (.if_icmp .ne 12, 3) := by decide +kernel
theorem dX1_grown_134 : decode cX1_grown 134 = .ok (.iload 4, 2) := by decide +kernel
theorem dX1_grown_136 : decode cX1_grown 136 = .ok (.iload 5, 2) := by decide +kernel
theorem dX1_grown_138 : decode cX1_grown 138 = .ok (.if_icmp .eq 5, 3) := by decide +kernel
theorem dX1_grown_141 : decode cX1_grown 141 = .ok (.iconst 0, 1) := by decide +kernel
theorem dX1_grown_142 : decode cX1_grown 142 = .ok (.ireturn, 1) := by decide +kernel
theorem dX1_grown_143 : decode cX1_grown 143 = .ok (.iconst 0, 1) := by decide +kernel
theorem dX1_grown_144 : decode cX1_grown 144 = .ok (.istore 11, 2) := by decide +kernel
theorem dX1_grown_146 : decode cX1_grown 146 = .ok (.iload 11, 2) := by decide +kernel
theorem dX1_grown_148 : decode cX1_grown 148 = .ok (.iload 4, 2) := by decide +kernel
theorem dX1_grown_150 : decode cX1_grown 150 = .ok (.iload 5, 2) := by decide +kernel
theorem dX1_grown_152 : decode cX1_grown 152 = .ok (.imul, 1) := by decide +kernel
theorem dX1_grown_153 : decode cX1_grown 153 = .ok (.if_icmp .ge 68, 3) := by decide +kernel
theorem dX1_grown_156 : decode cX1_grown 156 = .ok (.bipush 60, 2) := by decide +kernel
theorem dX1_grown_158 : decode cX1_grown 158 = .ok (.iconst 1, 1) := by decide +kernel
theorem dX1_grown_159 : decode cX1_grown 159 = .ok (.iload_n 2, 1) := by decide +kernel
theorem dX1_grown_160 : decode cX1_grown 160 = .ok (.isub, 1) := by decide +kernel
theorem dX1_grown_161 : decode cX1_grown 161 = .ok (.imul, 1) := by decide +kernel
theorem dX1_grown_162 : decode cX1_grown 162 = .ok (.iload 4, 2) := by decide +kernel
theorem dX1_grown_164 : decode cX1_grown 164 = .ok (.iload 6, 2) := by decide +kernel
theorem dX1_grown_166 : decode cX1_grown 166 = .ok (.imul, 1) := by decide +kernel
theorem dX1_grown_167 : decode cX1_grown 167 = .ok (.iadd, 1) := by decide +kernel
theorem dX1_grown_168 : decode cX1_grown 168 = .ok (.iload 11, 2) := by decide +kernel
theorem dX1_grown_170 : decode cX1_grown 170 = .ok (.iload 5, 2) := by decide +kernel
theorem dX1_grown_172 : decode cX1_grown 172 = .ok (.idiv, 1) := by decide +kernel
theorem dX1_grown_173 : decode cX1_grown 173 = .ok (.iadd, 1) := by decide +kernel
theorem dX1_grown_174 : decode cX1_grown 174 = .ok (.istore 12, 2) := by decide +kernel
theorem dX1_grown_176 : decode cX1_grown 176 = .ok (.aload_n 0, 1) := by decide +kernel
theorem dX1_grown_177 : decode cX1_grown 177 = .ok (.getfield 73, 3) := by decide +kernel
theorem dX1_grown_180 : decode cX1_grown 180 = .ok (.bipush 60, 2) := by decide +kernel
theorem dX1_grown_182 : decode cX1_grown 182 = .ok (.iload 12, 2) := by decide +kernel
theorem dX1_grown_184 : decode cX1_grown 184 = .ok (.imul, 1) := by decide +kernel
theorem dX1_grown_185 : decode cX1_grown 185 = .ok (.iload 5, 2) := by decide +kernel
theorem dX1_grown_187 : decode cX1_grown 187 = .ok (.iload 9, 2) := by decide +kernel
theorem dX1_grown_189 : decode cX1_grown 189 = .ok (.imul, 1) := by decide +kernel
theorem dX1_grown_190 : decode cX1_grown 190 = .ok (.iadd, 1) := by decide +kernel
theorem dX1_grown_191 : decode cX1_grown 191 = .ok (.iload 11, 2) := by decide +kernel
theorem dX1_grown_193 : decode cX1_grown 193 = .ok (.iload 5, 2) := by decide +kernel
theorem dX1_grown_195 : decode cX1_grown 195 = .ok (.irem, 1) := by decide +kernel
theorem dX1_grown_196 : decode cX1_grown 196 = .ok (.iadd, 1) := by decide +kernel
theorem dX1_grown_197 : decode cX1_grown 197 = .ok (.aload_n 0, 1) := by decide +kernel
theorem dX1_grown_198 : decode cX1_grown 198 = .ok (.iload_n 1, 1) := by decide +kernel
theorem dX1_grown_199 : decode cX1_grown 199 = .ok (.iload 10, 2) := by decide +kernel
theorem dX1_grown_201 : decode cX1_grown 201 = .ok (.iload 11, 2) := by decide +kernel
theorem dX1_grown_203 : decode cX1_grown 203 = .ok (.iload 5, 2) := by decide +kernel
theorem dX1_grown_205 : decode cX1_grown 205 = .ok (.idiv, 1) := by decide +kernel
theorem dX1_grown_206 : decode cX1_grown 206 = .ok (.iload 11, 2) := by decide +kernel
theorem dX1_grown_208 : decode cX1_grown 208 = .ok (.iload 5, 2) := by decide +kernel
theorem dX1_grown_210 : decode cX1_grown 210 = .ok (.irem, 1) := by decide +kernel
theorem dX1_grown_211 : decode cX1_grown 211 = .ok (.invokevirtual 252, 3) := by decide +kernel
theorem dX1_grown_214 : decode cX1_grown 214 = .ok (.iastore, 1) := by decide +kernel
theorem dX1_grown_215 : decode cX1_grown 215 = .ok (.iinc 11 1, 3) := by decide +kernel
theorem dX1_grown_218 : decode cX1_grown 218 = .ok (.goto (-72), 3) := by decide +kernel
theorem dX1_grown_221 : decode cX1_grown 221 = .ok (.iinc 9 1, 3) := by decide +kernel
theorem dX1_grown_224 : decode cX1_grown 224 = .ok (.goto (-133), 3) := by decide +kernel
theorem dX1_grown_227 : decode cX1_grown 227 = .ok (.iconst 0, 1) := by decide +kernel
theorem dX1_grown_228 : decode cX1_grown 228 = .ok (.istore 9, 2) := by decide +kernel
theorem dX1_grown_230 : decode cX1_grown 230 = .ok (.iload 9, 2) := by decide +kernel
theorem dX1_grown_232 : decode cX1_grown 232 = .ok (.iload 4, 2) := by decide +kernel
theorem dX1_grown_234 : decode cX1_grown 234 = .ok (.if_icmp .ge 52, 3) := by decide +kernel
theorem dX1_grown_237 : decode cX1_grown 237 = .ok (.bipush 60, 2) := by decide +kernel
theorem dX1_grown_239 : decode cX1_grown 239 = .ok (.iconst 1, 1) := by decide +kernel
theorem dX1_grown_240 : decode cX1_grown 240 = .ok (.iload_n 2, 1) := by decide +kernel
theorem dX1_grown_241 : decode cX1_grown 241 = .ok (.isub, 1) := by decide +kernel
theorem dX1_grown_242 : decode cX1_grown 242 = .ok (.imul, 1) := by decide +kernel
theorem dX1_grown_243 : decode cX1_grown 243 = .ok (.iload 4, 2) := by decide +kernel
theorem dX1_grown_245 : decode cX1_grown 245 = .ok (.iload 6, 2) := by decide +kernel
theorem dX1_grown_247 : decode cX1_grown 247 = .ok (.imul, 1) := by decide +kernel
theorem dX1_grown_248 : decode cX1_grown 248 = .ok (.iadd, 1) := by decide +kernel
theorem dX1_grown_249 : decode cX1_grown 249 = .ok (.iload 9, 2) := by decide +kernel
theorem dX1_grown_251 : decode cX1_grown 251 = .ok (.iadd, 1) := by decide +kernel
theorem dX1_grown_252 : decode cX1_grown 252 = .ok (.istore 10, 2) := by decide +kernel
theorem dX1_grown_254 : decode cX1_grown 254 = .ok (.aload_n 0, 1) := by decide +kernel
theorem dX1_grown_255 : decode cX1_grown 255 = .ok (.getfield 76, 3) := by decide +kernel
theorem dX1_grown_258 : decode cX1_grown 258 = .ok (.iload 10, 2) := by decide +kernel
theorem dX1_grown_260 : decode cX1_grown 260 = .ok (.aload_n 0, 1) := by decide +kernel
theorem dX1_grown_261 : decode cX1_grown 261 = .ok (.getfield 76, 3) := by decide +kernel
theorem dX1_grown_264 : decode cX1_grown 264 = .ok (.iload 7, 2) := by decide +kernel
theorem dX1_grown_266 : decode cX1_grown 266 = .ok (.iaload, 1) := by decide +kernel
theorem dX1_grown_267 : decode cX1_grown 267 = .ok (.iload 5, 2) := by decide +kernel
theorem dX1_grown_269 : decode cX1_grown 269 = .ok (.imul, 1) := by decide +kernel
theorem dX1_grown_270 : decode cX1_grown 270 = .ok (.iastore, 1) := by decide +kernel
theorem dX1_grown_271 : decode cX1_grown 271 = .ok (.aload_n 0, 1) := by decide +kernel
theorem dX1_grown_272 : decode cX1_grown 272 = .ok (.getfield 79, 3) := by decide +kernel
theorem dX1_grown_275 : decode cX1_grown 275 = .ok (.iload 10, 2) := by decide +kernel
theorem dX1_grown_277 : decode cX1_grown 277 = .ok (.iload 8, 2) := by decide +kernel
theorem dX1_grown_279 : decode cX1_grown 279 = .ok (.iastore, 1) := by decide +kernel
theorem dX1_grown_280 : decode cX1_grown 280 = .ok (.iinc 9 1, 3) := by decide +kernel
theorem dX1_grown_283 : decode cX1_grown 283 = .ok (.goto (-53), 3) := by decide +kernel
theorem dX1_grown_286 : decode cX1_grown 286 = .ok (.iinc 6 1, 3) := by decide +kernel
theorem dX1_grown_289 : decode cX1_grown 289 = .ok (.goto (-259), 3) := by decide +kernel
theorem dX1_grown_292 : decode cX1_grown 292 = .ok (.iconst 1, 1) := by decide +kernel
theorem dX1_grown_293 : decode cX1_grown 293 = .ok (.ireturn, 1) := by decide +kernel
theorem dX1_block_0 : decode cX1_block 0 = .ok (.iload_n 2, 1) := by decide +kernel
theorem dX1_block_1 : decode cX1_block 1 = .ok (.ifCond .ne 5, 3) := by decide +kernel
theorem dX1_block_4 : decode cX1_block 4 = .ok (.iconst 0, 1) := by decide +kernel
theorem dX1_block_5 : decode cX1_block 5 = .ok (.ireturn, 1) := by decide +kernel
theorem dX1_block_6 : decode cX1_block 6 = .ok (.aload_n 0, 1) := by decide +kernel
theorem dX1_block_7 : decode cX1_block 7 = .ok (.iload_n 2, 1) := by decide +kernel
theorem dX1_block_8 : decode cX1_block 8 = .ok (.invokestatic 160, 3) := by decide +kernel
theorem dX1_block_11 : decode cX1_block 11 = .ok (.aload_n 0, 1) := by decide +kernel
theorem dX1_block_12 : decode cX1_block 12 = .ok (.getfield 64, 3) := by decide +kernel
theorem dX1_block_15 : decode cX1_block 15 = .ok (.iload_n 1, 1) := by decide +kernel
theorem dX1_block_16 : decode cX1_block 16 = .ok (.iaload, 1) := by decide +kernel
theorem dX1_block_17 : decode cX1_block 17 = .ok (.aload_n 0, 1) := by decide +kernel
theorem dX1_block_18 : decode cX1_block 18 = .ok (.getfield 67, 3) := by decide +kernel
theorem dX1_block_21 : decode cX1_block 21 = .ok (.iload_n 1, 1) := by decide +kernel
theorem dX1_block_22 : decode cX1_block 22 = .ok (.iaload, 1) := by decide +kernel
theorem dX1_block_23 : decode cX1_block 23 = .ok (.iload_n 3, 1) := by decide +kernel
theorem dX1_block_24 : decode cX1_block 24 = .ok (.iload 4, 2) := by decide +kernel
theorem dX1_block_26 : decode cX1_block 26 = .ok (.invokevirtual 227, 3) := by decide +kernel
theorem dX1_block_29 : decode cX1_block 29 = .ok (.aload_n 0, 1) := by decide +kernel
theorem dX1_block_30 : decode cX1_block 30 = .ok (.aload_n 0, 1) := by decide +kernel
theorem dX1_block_31 : decode cX1_block 31 = .ok (.getfield 70, 3) := by decide +kernel
theorem dX1_block_34 : decode cX1_block 34 = .ok (.sipush 640, 3) := by decide +kernel
theorem dX1_block_37 : decode cX1_block 37 = .ok (.iload_n 1, 1) := by decide +kernel
theorem dX1_block_38 : decode cX1_block 38 = .ok (.imul, 1) := by decide +kernel
theorem dX1_block_39 : decode cX1_block 39 = .ok (.bipush 16, 2) := by decide +kernel
theorem dX1_block_41 : decode cX1_block 41 = .ok (.iload_n 2, 1) := by decide +kernel
theorem dX1_block_42 : decode cX1_block 42 = .ok (.invokestatic 156, 3) := by decide +kernel
theorem dX1_block_45 : decode cX1_block 45 = .ok (.imul, 1) := by decide +kernel
theorem dX1_block_46 : decode cX1_block 46 = .ok (.iadd, 1) := by decide +kernel
theorem dX1_block_47 : decode cX1_block 47 = .ok (.iconst 4, 1) := by decide +kernel
theorem dX1_block_48 : decode cX1_block 48 = .ok (.aload_n 0, 1) := by decide +kernel
theorem dX1_block_49 : decode cX1_block 49 = .ok (.getfield 215, 3) := by decide +kernel
theorem dX1_block_52 : decode cX1_block 52 = .ok (.imul, 1) := by decide +kernel
theorem dX1_block_53 : decode cX1_block 53 = .ok (.iadd, 1) := by decide +kernel
theorem dX1_block_54 : decode cX1_block 54 = .ok (.aload_n 0, 1) := by decide +kernel
theorem dX1_block_55 : decode cX1_block 55 = .ok (.getfield 218, 3) := by decide +kernel
theorem dX1_block_58 : decode cX1_block 58 = .ok (.iadd, 1) := by decide +kernel
theorem dX1_block_59 : decode cX1_block 59 = .ok (.iaload, 1) := by decide +kernel
theorem dX1_block_60 : decode cX1_block 60 = .ok (.iload_n 2, 1) := by decide +kernel
theorem dX1_block_61 : decode cX1_block 61 = .ok (.invokestatic 160, 3) := by decide +kernel
theorem dX1_block_64 : decode cX1_block 64 = .ok (.invokevirtual 231, 3) := by decide +kernel
theorem dX1_block_67 : decode cX1_block 67 = .ok (.istore 5, 2) := by decide +kernel
theorem dX1_block_69 : decode cX1_block 69 = .ok (.iload 5, 2) := by decide +kernel
theorem dX1_block_71 : decode cX1_block 71 = .ok (.ifCond .ne 7, 3) := by decide +kernel
theorem dX1_block_74 : decode cX1_block 74 = .ok (.iconst 0, 1) := by decide +kernel
theorem dX1_block_75 : decode cX1_block 75 = .ok (.goto 20, 3) := by decide +kernel
theorem dX1_block_78 : decode cX1_block 78 = .ok (.iload 5, 2) := by decide +kernel
theorem dX1_block_80 : decode cX1_block 80 = .ok (.invokestatic 156, 3) := by decide +kernel
theorem dX1_block_83 : decode cX1_block 83 = .ok (.iload 5, 2) := by decide +kernel
theorem dX1_block_85 : decode cX1_block 85 = .ok (.invokestatic 160, 3) := by decide +kernel
theorem dX1_block_88 : decode cX1_block 88 = .ok (.iload_n 2, 1) := by decide +kernel
theorem dX1_block_89 : decode cX1_block 89 = .ok (.invokestatic 163, 3) := by decide +kernel
theorem dX1_block_92 : decode cX1_block 92 = .ok (.invokestatic 166, 3) := by decide +kernel
theorem dX1_block_95 : decode cX1_block 95 = .ok (.ireturn, 1) := by decide +kernel
theorem dX1_foretold_0 : decode cX1_foretold 0 = .ok (.aload_n 0, 1) := by decide +kernel
theorem dX1_foretold_1 : decode cX1_foretold 1 = .ok (.iload_n 1, 1) := by decide +kernel
theorem dX1_foretold_2 : decode cX1_foretold 2 = .ok (.invokevirtual 241, 3) := by decide +kernel
theorem dX1_foretold_5 : decode cX1_foretold 5 = .ok (.ifCond .eq 30, 3) := by decide +kernel
theorem dX1_foretold_8 : decode cX1_foretold 8 = .ok (.aload_n 0, 1) := by decide +kernel
theorem dX1_foretold_9 : decode cX1_foretold 9 = .ok (.iload_n 2, 1) := by decide +kernel
theorem dX1_foretold_10 : decode cX1_foretold 10 = .ok (.invokevirtual 145, 3) := by decide +kernel
theorem dX1_foretold_13 : decode cX1_foretold 13 = .ok (.ifCond .eq 22, 3) := by decide +kernel
theorem dX1_foretold_16 : decode cX1_foretold 16 = .ok (.aload_n 0, 1) := by decide +kernel
theorem dX1_foretold_17 : decode cX1_foretold 17 = .ok (.iload 4, 2) := by decide +kernel
theorem dX1_foretold_19 : decode cX1_foretold 19 = .ok (.invokevirtual 145, 3) := by decide +kernel
theorem dX1_foretold_22 : decode cX1_foretold 22 = .ok (.ifCond .eq 13, 3) := by decide +kernel
theorem dX1_foretold_25 : decode cX1_foretold 25 = .ok (.iload_n 3, 1) := by decide +kernel
theorem dX1_foretold_26 : decode cX1_foretold 26 = .ok (.ifCond .lt 9, 3) := by decide +kernel
theorem dX1_foretold_29 : decode cX1_foretold 29 = .ok (.iload_n 3, 1) := by decide +kernel
theorem dX1_foretold_30 : decode cX1_foretold 30 = .ok (.bipush 60, 2) := by decide +kernel
theorem dX1_foretold_32 : decode cX1_foretold 32 = .ok (.if_icmp .le 7, 3) := by decide +kernel
theorem dX1_foretold_35 : decode cX1_foretold 35 = .ok (.ldc2_w 255, 3) := by decide +kernel
theorem dX1_foretold_38 : decode cX1_foretold 38 = .ok (.lreturn, 1) := by decide +kernel
theorem dX1_foretold_39 : decode cX1_foretold 39 = .ok (.iconst 0, 1) := by decide +kernel
theorem dX1_foretold_40 : decode cX1_foretold 40 = .ok (.istore 5, 2) := by decide +kernel
theorem dX1_foretold_42 : decode cX1_foretold 42 = .ok (.iload 5, 2) := by decide +kernel
theorem dX1_foretold_44 : decode cX1_foretold 44 = .ok (.aload_n 0, 1) := by decide +kernel
theorem dX1_foretold_45 : decode cX1_foretold 45 = .ok (.getfield 128, 3) := by decide +kernel
theorem dX1_foretold_48 : decode cX1_foretold 48 = .ok (.if_icmp .ge 27, 3) := by decide +kernel
theorem dX1_foretold_51 : decode cX1_foretold 51 = .ok (.aload_n 0, 1) := by decide +kernel
theorem dX1_foretold_52 : decode cX1_foretold 52 = .ok (.getfield 82, 3) := by decide +kernel
theorem dX1_foretold_55 : decode cX1_foretold 55 = .ok (.iload 5, 2) := by decide +kernel
theorem dX1_foretold_57 : decode cX1_foretold 57 = .ok (.iload 5, 2) := by decide +kernel
theorem dX1_foretold_59 : decode cX1_foretold 59 = .ok (.iload_n 2, 1) := by decide +kernel
theorem dX1_foretold_60 : decode cX1_foretold 60 = .ok (.if_icmp .ne 7, 3) := by decide +kernel
theorem dX1_foretold_63 : decode cX1_foretold 63 = .ok (.lconst 1, 1) := by decide +kernel
theorem dX1_foretold_64 : decode cX1_foretold 64 = .ok (.goto 4, 3) := by decide +kernel
theorem dX1_foretold_67 : decode cX1_foretold 67 = .ok (.lconst 0, 1) := by decide +kernel
theorem dX1_foretold_68 : decode cX1_foretold 68 = .ok (.lastore, 1) := by decide +kernel
theorem dX1_foretold_69 : decode cX1_foretold 69 = .ok (.iinc 5 1, 3) := by decide +kernel
theorem dX1_foretold_72 : decode cX1_foretold 72 = .ok (.goto (-30), 3) := by decide +kernel
theorem dX1_foretold_75 : decode cX1_foretold 75 = .ok (.iconst 0, 1) := by decide +kernel
theorem dX1_foretold_76 : decode cX1_foretold 76 = .ok (.istore 5, 2) := by decide +kernel
theorem dX1_foretold_78 : decode cX1_foretold 78 = .ok (.iload 5, 2) := by decide +kernel
theorem dX1_foretold_80 : decode cX1_foretold 80 = .ok (.iload_n 3, 1) := by decide +kernel
theorem dX1_foretold_81 : decode cX1_foretold 81 = .ok (.if_icmp .ge 172, 3) := by decide +kernel
theorem dX1_foretold_84 : decode cX1_foretold 84 = .ok (.iconst 0, 1) := by decide +kernel
theorem dX1_foretold_85 : decode cX1_foretold 85 = .ok (.istore 6, 2) := by decide +kernel
theorem dX1_foretold_87 : decode cX1_foretold 87 = .ok (.iload 6, 2) := by decide +kernel
theorem dX1_foretold_89 : decode cX1_foretold 89 = .ok (.aload_n 0, 1) := by decide +kernel
theorem dX1_foretold_90 : decode cX1_foretold 90 = .ok (.getfield 128, 3) := by decide +kernel
theorem dX1_foretold_93 : decode cX1_foretold 93 = .ok (.if_icmp .ge 17, 3) := by decide +kernel
theorem dX1_foretold_96 : decode cX1_foretold 96 = .ok (.aload_n 0, 1) := by decide +kernel
theorem dX1_foretold_97 : decode cX1_foretold 97 = .ok (.getfield 85, 3) := by decide +kernel
theorem dX1_foretold_100 : decode cX1_foretold 100 = .ok (.iload 6, 2) := by decide +kernel
theorem dX1_foretold_102 : decode cX1_foretold 102 = .ok (.lconst 0, 1) := by decide +kernel
theorem dX1_foretold_103 : decode cX1_foretold 103 = .ok (.lastore, 1) := by decide +kernel
theorem dX1_foretold_104 : decode cX1_foretold 104 = .ok (.iinc 6 1, 3) := by decide +kernel
theorem dX1_foretold_107 : decode cX1_foretold 107 = .ok (.goto (-20), 3) := by decide +kernel
theorem dX1_foretold_110 : decode cX1_foretold 110 = .ok (.iconst 0, 1) := by decide +kernel
theorem dX1_foretold_111 : decode cX1_foretold 111 = .ok (.istore 6, 2) := by decide +kernel
theorem dX1_foretold_113 : decode cX1_foretold 113 = .ok (.iload 6, 2) := by decide +kernel
theorem dX1_foretold_115 : decode cX1_foretold 115 = .ok (.aload_n 0, 1) := by decide +kernel
theorem dX1_foretold_116 : decode cX1_foretold 116 = .ok (.getfield 128, 3) := by decide +kernel
theorem dX1_foretold_119 : decode cX1_foretold 119 = .ok (.if_icmp .ge 96, 3) := by decide +kernel
theorem dX1_foretold_122 : decode cX1_foretold 122 = .ok (.aload_n 0, 1) := by decide +kernel
theorem dX1_foretold_123 : decode cX1_foretold 123 = .ok (.getfield 82, 3) := by decide +kernel
theorem dX1_foretold_126 : decode cX1_foretold 126 = .ok (.iload 6, 2) := by decide +kernel
theorem dX1_foretold_128 : decode cX1_foretold 128 = .ok (.laload, 1) := by decide +kernel
theorem dX1_foretold_129 : decode cX1_foretold 129 = .ok (.lconst 0, 1) := by decide +kernel
theorem dX1_foretold_130 : decode cX1_foretold 130 = .ok (.lcmp, 1) := by decide +kernel
theorem dX1_foretold_131 : decode cX1_foretold 131 = .ok (.ifCond .ne 6, 3) := by decide +kernel
theorem dX1_foretold_134 : decode cX1_foretold 134 = .ok (.goto 75, 3) := by decide +kernel
theorem dX1_foretold_137 : decode cX1_foretold 137 = .ok (.iconst 0, 1) := by decide +kernel
theorem dX1_foretold_138 : decode cX1_foretold 138 = .ok (.istore 7, 2) := by decide +kernel
theorem dX1_foretold_140 : decode cX1_foretold 140 = .ok (.iload 7, 2) := by decide +kernel
theorem dX1_foretold_142 : decode cX1_foretold 142 = .ok (.bipush 16, 2) := by decide +kernel
theorem dX1_foretold_144 : decode cX1_foretold 144 = .ok (.if_icmp .ge 65, 3) := by decide +kernel
theorem dX1_foretold_147 : decode cX1_foretold 147 = .ok (.aload_n 0, 1) := by decide +kernel
theorem dX1_foretold_148 : decode cX1_foretold 148 = .ok (.getfield 70, 3) := by decide +kernel
theorem dX1_foretold_151 : decode cX1_foretold 151 = .ok (.sipush 640, 3) := by decide +kernel
theorem dX1_foretold_154 : decode cX1_foretold 154 = .ok (.iload_n 1, 1) := by decide +kernel
theorem dX1_foretold_155 : decode cX1_foretold 155 = .ok (.imul, 1) := by decide +kernel
theorem dX1_foretold_156 : decode cX1_foretold 156 = .ok (.bipush 16, 2) := by decide +kernel
theorem dX1_foretold_158 : decode cX1_foretold 158 = .ok (.iload 6, 2) := by decide +kernel
theorem dX1_foretold_160 : decode cX1_foretold 160 = .ok (.imul, 1) := by decide +kernel
theorem dX1_foretold_161 : decode cX1_foretold 161 = .ok (.iadd, 1) := by decide +kernel
theorem dX1_foretold_162 : decode cX1_foretold 162 = .ok (.iload 7, 2) := by decide +kernel
theorem dX1_foretold_164 : decode cX1_foretold 164 = .ok (.iadd, 1) := by decide +kernel
theorem dX1_foretold_165 : decode cX1_foretold 165 = .ok (.iaload, 1) := by decide +kernel
theorem dX1_foretold_166 : decode cX1_foretold 166 = .ok (.istore 8, 2) := by decide +kernel
theorem dX1_foretold_168 : decode cX1_foretold 168 = .ok (.iload 8, 2) := by decide +kernel
theorem dX1_foretold_170 : decode cX1_foretold 170 = .ok (.ifCond .eq 33, 3) := by decide +kernel
theorem dX1_foretold_173 : decode cX1_foretold 173 = .ok (.aload_n 0, 1) := by decide +kernel
theorem dX1_foretold_174 : decode cX1_foretold 174 = .ok (.getfield 85, 3) := by decide +kernel
theorem dX1_foretold_177 : decode cX1_foretold 177 = .ok (.iload 8, 2) := by decide +kernel
theorem dX1_foretold_179 : decode cX1_foretold 179 = .ok (.invokestatic 156, 3) := by decide +kernel
theorem dX1_foretold_182 : decode cX1_foretold 182 = .ok (.aload_n 0, 1) := by decide +kernel
theorem dX1_foretold_183 : decode cX1_foretold 183 = .ok (.getfield 85, 3) := by decide +kernel
theorem dX1_foretold_186 : decode cX1_foretold 186 = .ok (.iload 8, 2) := by decide +kernel
theorem dX1_foretold_188 : decode cX1_foretold 188 = .ok (.invokestatic 156, 3) := by decide +kernel
theorem dX1_foretold_191 : decode cX1_foretold 191 = .ok (.laload, 1) := by decide +kernel
theorem dX1_foretold_192 : decode cX1_foretold 192 = .ok (.aload_n 0, 1) := by decide +kernel
theorem dX1_foretold_193 : decode cX1_foretold 193 = .ok (.getfield 82, 3) := by decide +kernel
theorem dX1_foretold_196 : decode cX1_foretold 196 = .ok (.iload 6, 2) := by decide +kernel
theorem dX1_foretold_198 : decode cX1_foretold 198 = .ok (.laload, 1) := by decide +kernel
theorem dX1_foretold_199 : decode cX1_foretold 199 = .ok (.invokestatic 257, 3) := by decide +kernel
theorem dX1_foretold_202 : decode cX1_foretold 202 = .ok (.lastore, 1) := by decide +kernel
theorem dX1_foretold_203 : decode cX1_foretold 203 = .ok (.iinc 7 1, 3) := by decide +kernel
theorem dX1_foretold_206 : decode cX1_foretold 206 = .ok (.goto (-66), 3) := by decide +kernel
theorem dX1_foretold_209 : decode cX1_foretold 209 = .ok (.iinc 6 1, 3) := by decide +kernel
theorem dX1_foretold_212 : decode cX1_foretold 212 = .ok (.goto (-99), 3) := by decide +kernel
theorem dX1_foretold_215 : decode cX1_foretold 215 = .ok (.iconst 0, 1) := by decide +kernel
theorem dX1_foretold_216 : decode cX1_foretold 216 = .ok (.istore 6, 2) := by decide +kernel
theorem dX1_foretold_218 : decode cX1_foretold 218 = .ok (.iload 6, 2) := by decide +kernel
theorem dX1_foretold_220 : decode cX1_foretold 220 = .ok (.aload_n 0, 1) := by decide +kernel
theorem dX1_foretold_221 : decode cX1_foretold 221 = .ok (.getfield 128, 3) := by decide +kernel
theorem dX1_foretold_224 : decode cX1_foretold 224 = .ok (.if_icmp .ge 23, 3) := by decide +kernel
theorem dX1_foretold_227 : decode cX1_foretold 227 = .ok (.aload_n 0, 1) := by decide +kernel
theorem dX1_foretold_228 : decode cX1_foretold 228 = .ok (.getfield 82, 3) := by decide +kernel
theorem dX1_foretold_231 : decode cX1_foretold 231 = .ok (.iload 6, 2) := by decide +kernel
theorem dX1_foretold_233 : decode cX1_foretold 233 = .ok (.aload_n 0, 1) := by decide +kernel
theorem dX1_foretold_234 : decode cX1_foretold 234 = .ok (.getfield 85, 3) := by decide +kernel
theorem dX1_foretold_237 : decode cX1_foretold 237 = .ok (.iload 6, 2) := by decide +kernel
theorem dX1_foretold_239 : decode cX1_foretold 239 = .ok (.laload, 1) := by decide +kernel
theorem dX1_foretold_240 : decode cX1_foretold 240 = .ok (.lastore, 1) := by decide +kernel
theorem dX1_foretold_241 : decode cX1_foretold 241 = .ok (.iinc 6 1, 3) := by decide +kernel
theorem dX1_foretold_244 : decode cX1_foretold 244 = .ok (.goto (-26), 3) := by decide +kernel
theorem dX1_foretold_247 : decode cX1_foretold 247 = .ok (.iinc 5 1, 3) := by decide +kernel
theorem dX1_foretold_250 : decode cX1_foretold 250 = .ok (.goto (-172), 3) := by decide +kernel
theorem dX1_foretold_253 : decode cX1_foretold 253 = .ok (.aload_n 0, 1) := by decide +kernel
theorem dX1_foretold_254 : decode cX1_foretold 254 = .ok (.getfield 82, 3) := by decide +kernel
theorem dX1_foretold_257 : decode cX1_foretold 257 = .ok (.iload 4, 2) := by decide +kernel
theorem dX1_foretold_259 : decode cX1_foretold 259 = .ok (.laload, 1) := by decide +kernel
theorem dX1_foretold_260 : decode cX1_foretold 260 = .ok (.lconst 0, 1) := by decide +kernel
theorem dX1_foretold_261 : decode cX1_foretold 261 = .ok (.lcmp, 1) := by decide +kernel
theorem dX1_foretold_262 : decode cX1_foretold 262 = .ok (.ifCond .ge 9, 3) := by decide +kernel
theorem dX1_foretold_265 : decode cX1_foretold 265 = .ok (.ldc2_w 261, 3) := by decide +kernel
theorem dX1_foretold_268 : decode cX1_foretold 268 = .ok (.goto 10, 3) := by decide +kernel
theorem dX1_foretold_271 : decode cX1_foretold 271 = .ok (.aload_n 0, 1) := by decide +kernel
theorem dX1_foretold_272 : decode cX1_foretold 272 = .ok (.getfield 82, 3) := by decide +kernel
theorem dX1_foretold_275 : decode cX1_foretold 275 = .ok (.iload 4, 2) := by decide +kernel
theorem dX1_foretold_277 : decode cX1_foretold 277 = .ok (.laload, 1) := by decide +kernel
theorem dX1_foretold_278 : decode cX1_foretold 278 = .ok (.lreturn, 1) := by decide +kernel
theorem dX1_sum_0 : decode cX1_sum 0 = .ok (.lload_n 0, 1) := by decide +kernel
theorem dX1_sum_1 : decode cX1_sum 1 = .ok (.lconst 0, 1) := by decide +kernel
theorem dX1_sum_2 : decode cX1_sum 2 = .ok (.lcmp, 1) := by decide +kernel
theorem dX1_sum_3 : decode cX1_sum 3 = .ok (.ifCond .lt 17, 3) := by decide +kernel
theorem dX1_sum_6 : decode cX1_sum 6 = .ok (.lload_n 2, 1) := by decide +kernel
theorem dX1_sum_7 : decode cX1_sum 7 = .ok (.lconst 0, 1) := by decide +kernel
theorem dX1_sum_8 : decode cX1_sum 8 = .ok (.lcmp, 1) := by decide +kernel
theorem dX1_sum_9 : decode cX1_sum 9 = .ok (.ifCond .lt 11, 3) := by decide +kernel
theorem dX1_sum_12 : decode cX1_sum 12 = .ok (.lload_n 0, 1) := by decide +kernel
theorem dX1_sum_13 : decode cX1_sum 13 = .ok (.lload_n 2, 1) := by decide +kernel
theorem dX1_sum_14 : decode cX1_sum 14 = .ok (.ladd, 1) := by decide +kernel
theorem dX1_sum_15 : decode cX1_sum 15 = .ok (.lconst 0, 1) := by decide +kernel
theorem dX1_sum_16 : decode cX1_sum 16 = .ok (.lcmp, 1) := by decide +kernel
theorem dX1_sum_17 : decode cX1_sum 17 = .ok (.ifCond .ge 9, 3) := by decide +kernel
theorem dX1_sum_20 : decode cX1_sum 20 = .ok (.ldc2_w 255, 3) := by decide +kernel
theorem dX1_sum_23 : decode cX1_sum 23 = .ok (.goto 6, 3) := by decide +kernel
theorem dX1_sum_26 : decode cX1_sum 26 = .ok (.lload_n 0, 1) := by decide +kernel
theorem dX1_sum_27 : decode cX1_sum 27 = .ok (.lload_n 2, 1) := by decide +kernel
theorem dX1_sum_28 : decode cX1_sum 28 = .ok (.ladd, 1) := by decide +kernel
theorem dX1_sum_29 : decode cX1_sum 29 = .ok (.lreturn, 1) := by decide +kernel
theorem dX1_count_0 : decode cX1_count 0 = .ok (.aload_n 0, 1) := by decide +kernel
theorem dX1_count_1 : decode cX1_count 1 = .ok (.iload_n 1, 1) := by decide +kernel
theorem dX1_count_2 : decode cX1_count 2 = .ok (.invokevirtual 187, 3) := by decide +kernel
theorem dX1_count_5 : decode cX1_count 5 = .ok (.ifCond .eq 16, 3) := by decide +kernel
theorem dX1_count_8 : decode cX1_count 8 = .ok (.iload_n 2, 1) := by decide +kernel
theorem dX1_count_9 : decode cX1_count 9 = .ok (.iconst (-1), 1) := by decide +kernel
theorem dX1_count_10 : decode cX1_count 10 = .ok (.if_icmp .eq 13, 3) := by decide +kernel
theorem dX1_count_13 : decode cX1_count 13 = .ok (.aload_n 0, 1) := by decide +kernel
theorem dX1_count_14 : decode cX1_count 14 = .ok (.iload_n 2, 1) := by decide +kernel
theorem dX1_count_15 : decode cX1_count 15 = .ok (.invokevirtual 145, 3) := by decide +kernel
theorem dX1_count_18 : decode cX1_count 18 = .ok (.ifCond .ne 5, 3) := by decide +kernel
theorem dX1_count_21 : decode cX1_count 21 = .ok (.iconst (-1), 1) := by decide +kernel
theorem dX1_count_22 : decode cX1_count 22 = .ok (.ireturn, 1) := by decide +kernel
theorem dX1_count_23 : decode cX1_count 23 = .ok (.iconst 0, 1) := by decide +kernel
theorem dX1_count_24 : decode cX1_count 24 = .ok (.istore_n 3, 1) := by decide +kernel
theorem dX1_count_25 : decode cX1_count 25 = .ok (.iconst 0, 1) := by decide +kernel
theorem dX1_count_26 : decode cX1_count 26 = .ok (.istore 4, 2) := by decide +kernel
theorem dX1_count_28 : decode cX1_count 28 = .ok (.iload 4, 2) := by decide +kernel
theorem dX1_count_30 : decode cX1_count 30 = .ok (.aload_n 0, 1) := by decide +kernel
theorem dX1_count_31 : decode cX1_count 31 = .ok (.getfield 40, 3) := by decide +kernel
theorem dX1_count_34 : decode cX1_count 34 = .ok (.iload_n 1, 1) := by decide +kernel
theorem dX1_count_35 : decode cX1_count 35 = .ok (.iaload, 1) := by decide +kernel
theorem dX1_count_36 : decode cX1_count 36 = .ok (.if_icmp .ge 89, 3) := by decide +kernel
theorem dX1_count_39 : decode cX1_count 39 = .ok (.aload_n 0, 1) := by decide +kernel
theorem dX1_count_40 : decode cX1_count 40 = .ok (.iload_n 1, 1) := by decide +kernel
theorem dX1_count_41 : decode cX1_count 41 = .ok (.iload 4, 2) := by decide +kernel
theorem dX1_count_43 : decode cX1_count 43 = .ok (.invokevirtual 175, 3) := by decide +kernel
theorem dX1_count_46 : decode cX1_count 46 = .ok (.istore 5, 2) := by decide +kernel
theorem dX1_count_48 : decode cX1_count 48 = .ok (.iconst 0, 1) := by decide +kernel
theorem dX1_count_49 : decode cX1_count 49 = .ok (.istore 6, 2) := by decide +kernel
theorem dX1_count_51 : decode cX1_count 51 = .ok (.iload 6, 2) := by decide +kernel
theorem dX1_count_53 : decode cX1_count 53 = .ok (.aload_n 0, 1) := by decide +kernel
theorem dX1_count_54 : decode cX1_count 54 = .ok (.getfield 27, 3) := by decide +kernel
theorem dX1_count_57 : decode cX1_count 57 = .ok (.iload 5, 2) := by decide +kernel
theorem dX1_count_59 : decode cX1_count 59 = .ok (.iaload, 1) := by decide +kernel
theorem dX1_count_60 : decode cX1_count 60 = .ok (.if_icmp .ge 59, 3) := by decide +kernel
theorem dX1_count_63 : decode cX1_count 63 = .ok (.aload_n 0, 1) := by decide +kernel
theorem dX1_count_64 : decode cX1_count 64 = .ok (.getfield 34, 3) := by decide +kernel
theorem dX1_count_67 : decode cX1_count 67 = .ok (.bipush 60, 2) := by decide +kernel
theorem dX1_count_69 : decode cX1_count 69 = .ok (.iload 5, 2) := by decide +kernel
theorem dX1_count_71 : decode cX1_count 71 = .ok (.imul, 1) := by decide +kernel
theorem dX1_count_72 : decode cX1_count 72 = .ok (.iload 6, 2) := by decide +kernel
theorem dX1_count_74 : decode cX1_count 74 = .ok (.iadd, 1) := by decide +kernel
theorem dX1_count_75 : decode cX1_count 75 = .ok (.iaload, 1) := by decide +kernel
theorem dX1_count_76 : decode cX1_count 76 = .ok (.istore 7, 2) := by decide +kernel
theorem dX1_count_78 : decode cX1_count 78 = .ok (.iload_n 3, 1) := by decide +kernel
theorem dX1_count_79 : decode cX1_count 79 = .ok (.iload 7, 2) := by decide +kernel
theorem dX1_count_81 : decode cX1_count 81 = .ok (.ifCond .ne 16, 3) := by decide +kernel
theorem dX1_count_84 : decode cX1_count 84 = .ok (.iload_n 2, 1) := by decide +kernel
theorem dX1_count_85 : decode cX1_count 85 = .ok (.iconst (-1), 1) := by decide +kernel
theorem dX1_count_86 : decode cX1_count 86 = .ok (.if_icmp .ne 7, 3) := by decide +kernel
theorem dX1_count_89 : decode cX1_count 89 = .ok (.iconst 1, 1) := by decide +kernel
theorem dX1_count_90 : decode cX1_count 90 = .ok (.goto 21, 3) := by decide +kernel
theorem dX1_count_93 : decode cX1_count 93 = .ok (.iconst 0, 1) := by decide +kernel
theorem dX1_count_94 : decode cX1_count 94 = .ok (.goto 17, 3) := by decide +kernel
theorem dX1_count_97 : decode cX1_count 97 = .ok (.iload 7, 2) := by decide +kernel
theorem dX1_count_99 : decode cX1_count 99 = .ok (.invokestatic 156, 3) := by decide +kernel
theorem dX1_count_102 : decode cX1_count 102 = .ok (.iload_n 2, 1) := by decide +kernel
theorem dX1_count_103 : decode cX1_count 103 = .ok (.if_icmp .ne 7, 3) := by decide +kernel
theorem dX1_count_106 : decode cX1_count 106 = .ok (.iconst 1, 1) := by decide +kernel
theorem dX1_count_107 : decode cX1_count 107 = .ok (.goto 4, 3) := by decide +kernel
theorem dX1_count_110 : decode cX1_count 110 = .ok (.iconst 0, 1) := by decide +kernel
theorem dX1_count_111 : decode cX1_count 111 = .ok (.iadd, 1) := by decide +kernel
theorem dX1_count_112 : decode cX1_count 112 = .ok (.istore_n 3, 1) := by decide +kernel
theorem dX1_count_113 : decode cX1_count 113 = .ok (.iinc 6 1, 3) := by decide +kernel
theorem dX1_count_116 : decode cX1_count 116 = .ok (.goto (-65), 3) := by decide +kernel
theorem dX1_count_119 : decode cX1_count 119 = .ok (.iinc 4 1, 3) := by decide +kernel
theorem dX1_count_122 : decode cX1_count 122 = .ok (.goto (-94), 3) := by decide +kernel
theorem dX1_count_125 : decode cX1_count 125 = .ok (.iload_n 3, 1) := by decide +kernel
theorem dX1_count_126 : decode cX1_count 126 = .ok (.ireturn, 1) := by decide +kernel
theorem dX1_fits_0 : decode cX1_fits 0 = .ok (.aload_n 0, 1) := by decide +kernel
theorem dX1_fits_1 : decode cX1_fits 1 = .ok (.iload_n 1, 1) := by decide +kernel
theorem dX1_fits_2 : decode cX1_fits 2 = .ok (.invokevirtual 187, 3) := by decide +kernel
theorem dX1_fits_5 : decode cX1_fits 5 = .ok (.ifCond .ne 5, 3) := by decide +kernel
theorem dX1_fits_8 : decode cX1_fits 8 = .ok (.iconst (-1), 1) := by decide +kernel
theorem dX1_fits_9 : decode cX1_fits 9 = .ok (.ireturn, 1) := by decide +kernel
theorem dX1_fits_10 : decode cX1_fits 10 = .ok (.iconst 0, 1) := by decide +kernel
theorem dX1_fits_11 : decode cX1_fits 11 = .ok (.istore_n 2, 1) := by decide +kernel
theorem dX1_fits_12 : decode cX1_fits 12 = .ok (.iconst 0, 1) := by decide +kernel
theorem dX1_fits_13 : decode cX1_fits 13 = .ok (.istore_n 3, 1) := by decide +kernel
theorem dX1_fits_14 : decode cX1_fits 14 = .ok (.iload_n 3, 1) := by decide +kernel
theorem dX1_fits_15 : decode cX1_fits 15 = .ok (.aload_n 0, 1) := by decide +kernel
theorem dX1_fits_16 : decode cX1_fits 16 = .ok (.getfield 40, 3) := by decide +kernel
theorem dX1_fits_19 : decode cX1_fits 19 = .ok (.iload_n 1, 1) := by decide +kernel
theorem dX1_fits_20 : decode cX1_fits 20 = .ok (.iaload, 1) := by decide +kernel
theorem dX1_fits_21 : decode cX1_fits 21 = .ok (.if_icmp .ge 179, 3) := by decide +kernel
theorem dX1_fits_24 : decode cX1_fits 24 = .ok (.aload_n 0, 1) := by decide +kernel
theorem dX1_fits_25 : decode cX1_fits 25 = .ok (.iload_n 1, 1) := by decide +kernel
theorem dX1_fits_26 : decode cX1_fits 26 = .ok (.iload_n 3, 1) := by decide +kernel
theorem dX1_fits_27 : decode cX1_fits 27 = .ok (.invokevirtual 175, 3) := by decide +kernel
theorem dX1_fits_30 : decode cX1_fits 30 = .ok (.istore 4, 2) := by decide +kernel
theorem dX1_fits_32 : decode cX1_fits 32 = .ok (.iconst 0, 1) := by decide +kernel
theorem dX1_fits_33 : decode cX1_fits 33 = .ok (.istore 5, 2) := by decide +kernel
theorem dX1_fits_35 : decode cX1_fits 35 = .ok (.iload 5, 2) := by decide +kernel
theorem dX1_fits_37 : decode cX1_fits 37 = .ok (.aload_n 0, 1) := by decide +kernel
theorem dX1_fits_38 : decode cX1_fits 38 = .ok (.getfield 27, 3) := by decide +kernel
theorem dX1_fits_41 : decode cX1_fits 41 = .ok (.iload 4, 2) := by decide +kernel
theorem dX1_fits_43 : decode cX1_fits 43 = .ok (.iaload, 1) := by decide +kernel
theorem dX1_fits_44 : decode cX1_fits 44 = .ok (.if_icmp .ge 150, 3) := by decide +kernel
theorem dX1_fits_47 : decode cX1_fits 47 = .ok (.aload_n 0, 1) := by decide +kernel
theorem dX1_fits_48 : decode cX1_fits 48 = .ok (.getfield 30, 3) := by decide +kernel
theorem dX1_fits_51 : decode cX1_fits 51 = .ok (.iload 4, 2) := by decide +kernel
theorem dX1_fits_53 : decode cX1_fits 53 = .ok (.iaload, 1) := by decide +kernel
theorem dX1_fits_54 : decode cX1_fits 54 = .ok (.iload 5, 2) := by decide +kernel
theorem dX1_fits_56 : decode cX1_fits 56 = .ok (.iadd, 1) := by decide +kernel
theorem dX1_fits_57 : decode cX1_fits 57 = .ok (.istore 6, 2) := by decide +kernel
theorem dX1_fits_59 : decode cX1_fits 59 = .ok (.aload_n 0, 1) := by decide +kernel
theorem dX1_fits_60 : decode cX1_fits 60 = .ok (.getfield 34, 3) := by decide +kernel
theorem dX1_fits_63 : decode cX1_fits 63 = .ok (.bipush 60, 2) := by decide +kernel
theorem dX1_fits_65 : decode cX1_fits 65 = .ok (.iload 4, 2) := by decide +kernel
theorem dX1_fits_67 : decode cX1_fits 67 = .ok (.imul, 1) := by decide +kernel
theorem dX1_fits_68 : decode cX1_fits 68 = .ok (.iload 5, 2) := by decide +kernel
theorem dX1_fits_70 : decode cX1_fits 70 = .ok (.iadd, 1) := by decide +kernel
theorem dX1_fits_71 : decode cX1_fits 71 = .ok (.iaload, 1) := by decide +kernel
theorem dX1_fits_72 : decode cX1_fits 72 = .ok (.istore 7, 2) := by decide +kernel
theorem dX1_fits_74 : decode cX1_fits 74 = .ok (.aload_n 0, 1) := by decide +kernel
theorem dX1_fits_75 : decode cX1_fits 75 = .ok (.iload_n 1, 1) := by decide +kernel
theorem dX1_fits_76 : decode cX1_fits 76 = .ok (.iload_n 3, 1) := by decide +kernel
theorem dX1_fits_77 : decode cX1_fits 77 = .ok (.i2l, 1) := by decide +kernel
theorem dX1_fits_78 : decode cX1_fits 78 = .ok (.iload 6, 2) := by decide +kernel
theorem dX1_fits_80 : decode cX1_fits 80 = .ok (.iconst 1, 1) := by decide +kernel
theorem dX1_fits_81 : decode cX1_fits 81 = .ok (.iadd, 1) := by decide +kernel
theorem dX1_fits_82 : decode cX1_fits 82 = .ok (.i2l, 1) := by decide +kernel
theorem dX1_fits_83 : decode cX1_fits 83 = .ok (.invokevirtual 204, 3) := by decide +kernel
theorem dX1_fits_86 : decode cX1_fits 86 = .ok (.ifCond .eq 23, 3) := by decide +kernel
theorem dX1_fits_89 : decode cX1_fits 89 = .ok (.aload_n 0, 1) := by decide +kernel
theorem dX1_fits_90 : decode cX1_fits 90 = .ok (.iload 7, 2) := by decide +kernel
theorem dX1_fits_92 : decode cX1_fits 92 = .ok (.aload_n 0, 1) := by decide +kernel
theorem dX1_fits_93 : decode cX1_fits 93 = .ok (.iload_n 1, 1) := by decide +kernel
theorem dX1_fits_94 : decode cX1_fits 94 = .ok (.iload_n 3, 1) := by decide +kernel
theorem dX1_fits_95 : decode cX1_fits 95 = .ok (.iload 6, 2) := by decide +kernel
theorem dX1_fits_97 : decode cX1_fits 97 = .ok (.iconst 1, 1) := by decide +kernel
theorem dX1_fits_98 : decode cX1_fits 98 = .ok (.iadd, 1) := by decide +kernel
theorem dX1_fits_99 : decode cX1_fits 99 = .ok (.invokevirtual 212, 3) := by decide +kernel
theorem dX1_fits_102 : decode cX1_fits 102 = .ok (.iconst 1, 1) := by decide +kernel
theorem dX1_fits_103 : decode cX1_fits 103 = .ok (.invokevirtual 263, 3) := by decide +kernel
theorem dX1_fits_106 : decode cX1_fits 106 = .ok (.ifCond .eq 7, 3) := by decide +kernel
theorem dX1_fits_109 : decode cX1_fits 109 = .ok (.iconst 1, 1) := by decide +kernel
theorem dX1_fits_110 : decode cX1_fits 110 = .ok (.goto 4, 3) := by decide +kernel
theorem dX1_fits_113 : decode cX1_fits 113 = .ok (.iconst 0, 1) := by decide +kernel
theorem dX1_fits_114 : decode cX1_fits 114 = .ok (.istore 8, 2) := by decide +kernel
theorem dX1_fits_116 : decode cX1_fits 116 = .ok (.aload_n 0, 1) := by decide +kernel
theorem dX1_fits_117 : decode cX1_fits 117 = .ok (.iload_n 1, 1) := by decide +kernel
theorem dX1_fits_118 : decode cX1_fits 118 = .ok (.iload_n 3, 1) := by decide +kernel
theorem dX1_fits_119 : decode cX1_fits 119 = .ok (.iconst 1, 1) := by decide +kernel
theorem dX1_fits_120 : decode cX1_fits 120 = .ok (.iadd, 1) := by decide +kernel
theorem dX1_fits_121 : decode cX1_fits 121 = .ok (.i2l, 1) := by decide +kernel
theorem dX1_fits_122 : decode cX1_fits 122 = .ok (.iload 6, 2) := by decide +kernel
theorem dX1_fits_124 : decode cX1_fits 124 = .ok (.i2l, 1) := by decide +kernel
theorem dX1_fits_125 : decode cX1_fits 125 = .ok (.invokevirtual 204, 3) := by decide +kernel
theorem dX1_fits_128 : decode cX1_fits 128 = .ok (.ifCond .eq 23, 3) := by decide +kernel
theorem dX1_fits_131 : decode cX1_fits 131 = .ok (.aload_n 0, 1) := by decide +kernel
theorem dX1_fits_132 : decode cX1_fits 132 = .ok (.iload 7, 2) := by decide +kernel
theorem dX1_fits_134 : decode cX1_fits 134 = .ok (.aload_n 0, 1) := by decide +kernel
theorem dX1_fits_135 : decode cX1_fits 135 = .ok (.iload_n 1, 1) := by decide +kernel
theorem dX1_fits_136 : decode cX1_fits 136 = .ok (.iload_n 3, 1) := by decide +kernel
theorem dX1_fits_137 : decode cX1_fits 137 = .ok (.iconst 1, 1) := by decide +kernel
theorem dX1_fits_138 : decode cX1_fits 138 = .ok (.iadd, 1) := by decide +kernel
theorem dX1_fits_139 : decode cX1_fits 139 = .ok (.iload 6, 2) := by decide +kernel
theorem dX1_fits_141 : decode cX1_fits 141 = .ok (.invokevirtual 212, 3) := by decide +kernel
theorem dX1_fits_144 : decode cX1_fits 144 = .ok (.iconst 2, 1) := by decide +kernel
theorem dX1_fits_145 : decode cX1_fits 145 = .ok (.invokevirtual 263, 3) := by decide +kernel
theorem dX1_fits_148 : decode cX1_fits 148 = .ok (.ifCond .eq 7, 3) := by decide +kernel
theorem dX1_fits_151 : decode cX1_fits 151 = .ok (.iconst 1, 1) := by decide +kernel
theorem dX1_fits_152 : decode cX1_fits 152 = .ok (.goto 4, 3) := by decide +kernel
theorem dX1_fits_155 : decode cX1_fits 155 = .ok (.iconst 0, 1) := by decide +kernel
theorem dX1_fits_156 : decode cX1_fits 156 = .ok (.istore 9, 2) := by decide +kernel
theorem dX1_fits_158 : decode cX1_fits 158 = .ok (.iload 8, 2) := by decide +kernel
theorem dX1_fits_160 : decode cX1_fits 160 = .ok (.ifCond .eq 8, 3) := by decide +kernel
theorem dX1_fits_163 : decode cX1_fits 163 = .ok (.iload 9, 2) := by decide +kernel
theorem dX1_fits_165 : decode cX1_fits 165 = .ok (.ifCond .ne 20, 3) := by decide +kernel
theorem dX1_fits_168 : decode cX1_fits 168 = .ok (.iconst 1, 1) := by decide +kernel
theorem dX1_fits_169 : decode cX1_fits 169 = .ok (.iconst 2, 1) := by decide +kernel
theorem dX1_fits_170 : decode cX1_fits 170 = .ok (.iload_n 2, 1) := by decide +kernel
theorem dX1_fits_171 : decode cX1_fits 171 = .ok (.imul, 1) := by decide +kernel
theorem dX1_fits_172 : decode cX1_fits 172 = .ok (.iadd, 1) := by decide +kernel
theorem dX1_fits_173 : decode cX1_fits 173 = .ok (.iload 8, 2) := by decide +kernel
theorem dX1_fits_175 : decode cX1_fits 175 = .ok (.ifCond .eq 7, 3) := by decide +kernel
theorem dX1_fits_178 : decode cX1_fits 178 = .ok (.iconst 1, 1) := by decide +kernel
theorem dX1_fits_179 : decode cX1_fits 179 = .ok (.goto 4, 3) := by decide +kernel
theorem dX1_fits_182 : decode cX1_fits 182 = .ok (.iconst 0, 1) := by decide +kernel
theorem dX1_fits_183 : decode cX1_fits 183 = .ok (.iadd, 1) := by decide +kernel
theorem dX1_fits_184 : decode cX1_fits 184 = .ok (.ireturn, 1) := by decide +kernel
theorem dX1_fits_185 : decode cX1_fits 185 = .ok (.iinc 2 1, 3) := by decide +kernel
theorem dX1_fits_188 : decode cX1_fits 188 = .ok (.iinc 5 1, 3) := by decide +kernel
theorem dX1_fits_191 : decode cX1_fits 191 = .ok (.goto (-156), 3) := by decide +kernel
theorem dX1_fits_194 : decode cX1_fits 194 = .ok (.iinc 3 1, 3) := by decide +kernel
theorem dX1_fits_197 : decode cX1_fits 197 = .ok (.goto (-183), 3) := by decide +kernel
theorem dX1_fits_200 : decode cX1_fits 200 = .ok (.iconst 0, 1) := by decide +kernel
theorem dX1_fits_201 : decode cX1_fits 201 = .ok (.ireturn, 1) := by decide +kernel
theorem dX1_fit_0 : decode cX1_fit 0 = .ok (.iload_n 1, 1) := by decide +kernel
theorem dX1_fit_1 : decode cX1_fit 1 = .ok (.ifCond .eq 40, 3) := by decide +kernel
theorem dX1_fit_4 : decode cX1_fit 4 = .ok (.iload_n 2, 1) := by decide +kernel
theorem dX1_fit_5 : decode cX1_fit 5 = .ok (.ifCond .eq 36, 3) := by decide +kernel
theorem dX1_fit_8 : decode cX1_fit 8 = .ok (.aload_n 0, 1) := by decide +kernel
theorem dX1_fit_9 : decode cX1_fit 9 = .ok (.iload_n 1, 1) := by decide +kernel
theorem dX1_fit_10 : decode cX1_fit 10 = .ok (.invokestatic 156, 3) := by decide +kernel
theorem dX1_fit_13 : decode cX1_fit 13 = .ok (.iload_n 1, 1) := by decide +kernel
theorem dX1_fit_14 : decode cX1_fit 14 = .ok (.invokestatic 160, 3) := by decide +kernel
theorem dX1_fit_17 : decode cX1_fit 17 = .ok (.iload_n 3, 1) := by decide +kernel
theorem dX1_fit_18 : decode cX1_fit 18 = .ok (.invokevirtual 151, 3) := by decide +kernel
theorem dX1_fit_21 : decode cX1_fit 21 = .ok (.aload_n 0, 1) := by decide +kernel
theorem dX1_fit_22 : decode cX1_fit 22 = .ok (.iload_n 2, 1) := by decide +kernel
theorem dX1_fit_23 : decode cX1_fit 23 = .ok (.invokestatic 156, 3) := by decide +kernel
theorem dX1_fit_26 : decode cX1_fit 26 = .ok (.iload_n 2, 1) := by decide +kernel
theorem dX1_fit_27 : decode cX1_fit 27 = .ok (.invokestatic 160, 3) := by decide +kernel
theorem dX1_fit_30 : decode cX1_fit 30 = .ok (.iload_n 3, 1) := by decide +kernel
theorem dX1_fit_31 : decode cX1_fit 31 = .ok (.iconst 2, 1) := by decide +kernel
theorem dX1_fit_32 : decode cX1_fit 32 = .ok (.iadd, 1) := by decide +kernel
theorem dX1_fit_33 : decode cX1_fit 33 = .ok (.iconst 3, 1) := by decide +kernel
theorem dX1_fit_34 : decode cX1_fit 34 = .ok (.iand, 1) := by decide +kernel
theorem dX1_fit_35 : decode cX1_fit 35 = .ok (.invokevirtual 151, 3) := by decide +kernel
theorem dX1_fit_38 : decode cX1_fit 38 = .ok (.if_icmp .ne 7, 3) := by decide +kernel
theorem dX1_fit_41 : decode cX1_fit 41 = .ok (.iconst 1, 1) := by decide +kernel
theorem dX1_fit_42 : decode cX1_fit 42 = .ok (.goto 4, 3) := by decide +kernel
theorem dX1_fit_45 : decode cX1_fit 45 = .ok (.iconst 0, 1) := by decide +kernel
theorem dX1_fit_46 : decode cX1_fit 46 = .ok (.ireturn, 1) := by decide +kernel
theorem dX1_period_0 : decode cX1_period 0 = .ok (.aload_n 0, 1) := by decide +kernel
theorem dX1_period_1 : decode cX1_period 1 = .ok (.iload_n 1, 1) := by decide +kernel
theorem dX1_period_2 : decode cX1_period 2 = .ok (.invokevirtual 187, 3) := by decide +kernel
theorem dX1_period_5 : decode cX1_period 5 = .ok (.ifCond .eq 12, 3) := by decide +kernel
theorem dX1_period_8 : decode cX1_period 8 = .ok (.iload_n 2, 1) := by decide +kernel
theorem dX1_period_9 : decode cX1_period 9 = .ok (.ifCond .lt 8, 3) := by decide +kernel
theorem dX1_period_12 : decode cX1_period 12 = .ok (.iload_n 2, 1) := by decide +kernel
theorem dX1_period_13 : decode cX1_period 13 = .ok (.iconst 1, 1) := by decide +kernel
theorem dX1_period_14 : decode cX1_period 14 = .ok (.if_icmp .le 5, 3) := by decide +kernel
theorem dX1_period_17 : decode cX1_period 17 = .ok (.iconst (-1), 1) := by decide +kernel
theorem dX1_period_18 : decode cX1_period 18 = .ok (.ireturn, 1) := by decide +kernel
theorem dX1_period_19 : decode cX1_period 19 = .ok (.iconst 1, 1) := by decide +kernel
theorem dX1_period_20 : decode cX1_period 20 = .ok (.istore_n 3, 1) := by decide +kernel
theorem dX1_period_21 : decode cX1_period 21 = .ok (.aload_n 0, 1) := by decide +kernel
theorem dX1_period_22 : decode cX1_period 22 = .ok (.iload_n 1, 1) := by decide +kernel
theorem dX1_period_23 : decode cX1_period 23 = .ok (.iload_n 2, 1) := by decide +kernel
theorem dX1_period_24 : decode cX1_period 24 = .ok (.ifCond .ne 7, 3) := by decide +kernel
theorem dX1_period_27 : decode cX1_period 27 = .ok (.iload_n 3, 1) := by decide +kernel
theorem dX1_period_28 : decode cX1_period 28 = .ok (.goto 4, 3) := by decide +kernel
theorem dX1_period_31 : decode cX1_period 31 = .ok (.iconst 0, 1) := by decide +kernel
theorem dX1_period_32 : decode cX1_period 32 = .ok (.iload_n 2, 1) := by decide +kernel
theorem dX1_period_33 : decode cX1_period 33 = .ok (.ifCond .ne 7, 3) := by decide +kernel
theorem dX1_period_36 : decode cX1_period 36 = .ok (.iconst 0, 1) := by decide +kernel
theorem dX1_period_37 : decode cX1_period 37 = .ok (.goto 4, 3) := by decide +kernel
theorem dX1_period_40 : decode cX1_period 40 = .ok (.iload_n 3, 1) := by decide +kernel
theorem dX1_period_41 : decode cX1_period 41 = .ok (.invokevirtual 266, 3) := by decide +kernel
theorem dX1_period_44 : decode cX1_period 44 = .ok (.ifCond .ne 9, 3) := by decide +kernel
theorem dX1_period_47 : decode cX1_period 47 = .ok (.iinc 3 1, 3) := by decide +kernel
theorem dX1_period_50 : decode cX1_period 50 = .ok (.goto (-29), 3) := by decide +kernel
theorem dX1_period_53 : decode cX1_period 53 = .ok (.iload_n 3, 1) := by decide +kernel
theorem dX1_period_54 : decode cX1_period 54 = .ok (.ireturn, 1) := by decide +kernel
theorem dX1_comesAgain_0 : decode cX1_comesAgain 0 = .ok (.iconst 0, 1) := by decide +kernel
theorem dX1_comesAgain_1 : decode cX1_comesAgain 1 = .ok (.istore 4, 2) := by decide +kernel
theorem dX1_comesAgain_3 : decode cX1_comesAgain 3 = .ok (.iload 4, 2) := by decide +kernel
theorem dX1_comesAgain_5 : decode cX1_comesAgain 5 = .ok (.aload_n 0, 1) := by decide +kernel
theorem dX1_comesAgain_6 : decode cX1_comesAgain 6 = .ok (.getfield 40, 3) := by decide +kernel
theorem dX1_comesAgain_9 : decode cX1_comesAgain 9 = .ok (.iload_n 1, 1) := by decide +kernel
theorem dX1_comesAgain_10 : decode cX1_comesAgain 10 = .ok (.iaload, 1) := by decide +kernel
theorem dX1_comesAgain_11 : decode cX1_comesAgain 11 = .ok (.if_icmp .ge 100, 3) := by decide +kernel
theorem dX1_comesAgain_14 : decode cX1_comesAgain 14 = .ok (.aload_n 0, 1) := by decide +kernel
theorem dX1_comesAgain_15 : decode cX1_comesAgain 15 = .ok (.iload_n 1, 1) := by decide +kernel
theorem dX1_comesAgain_16 : decode cX1_comesAgain 16 = .ok (.iload 4, 2) := by decide +kernel
theorem dX1_comesAgain_18 : decode cX1_comesAgain 18 = .ok (.invokevirtual 175, 3) := by decide +kernel
theorem dX1_comesAgain_21 : decode cX1_comesAgain 21 = .ok (.istore 5, 2) := by decide +kernel
theorem dX1_comesAgain_23 : decode cX1_comesAgain 23 = .ok (.iconst 0, 1) := by decide +kernel
theorem dX1_comesAgain_24 : decode cX1_comesAgain 24 = .ok (.istore 6, 2) := by decide +kernel
theorem dX1_comesAgain_26 : decode cX1_comesAgain 26 = .ok (.iload 6, 2) := by decide +kernel
theorem dX1_comesAgain_28 : decode cX1_comesAgain 28 = .ok (.aload_n 0, 1) := by decide +kernel
theorem dX1_comesAgain_29 : decode cX1_comesAgain 29 = .ok (.getfield 27, 3) := by decide +kernel
theorem dX1_comesAgain_32 : decode cX1_comesAgain 32 = .ok (.iload 5, 2) := by decide +kernel
theorem dX1_comesAgain_34 : decode cX1_comesAgain 34 = .ok (.iaload, 1) := by decide +kernel
theorem dX1_comesAgain_35 : decode cX1_comesAgain 35 = .ok (.if_icmp .ge 70, 3) := by decide +kernel
theorem dX1_comesAgain_38 : decode cX1_comesAgain 38 = .ok (.aload_n 0, 1) := by decide +kernel
theorem dX1_comesAgain_39 : decode cX1_comesAgain 39 = .ok (.getfield 30, 3) := by decide +kernel
theorem dX1_comesAgain_42 : decode cX1_comesAgain 42 = .ok (.iload 5, 2) := by decide +kernel
theorem dX1_comesAgain_44 : decode cX1_comesAgain 44 = .ok (.iaload, 1) := by decide +kernel
theorem dX1_comesAgain_45 : decode cX1_comesAgain 45 = .ok (.iload 6, 2) := by decide +kernel
theorem dX1_comesAgain_47 : decode cX1_comesAgain 47 = .ok (.iadd, 1) := by decide +kernel
theorem dX1_comesAgain_48 : decode cX1_comesAgain 48 = .ok (.istore 7, 2) := by decide +kernel
theorem dX1_comesAgain_50 : decode cX1_comesAgain 50 = .ok (.aload_n 0, 1) := by decide +kernel
theorem dX1_comesAgain_51 : decode cX1_comesAgain 51 = .ok (.iload_n 1, 1) := by decide +kernel
theorem dX1_comesAgain_52 : decode cX1_comesAgain 52 = .ok (.iload 4, 2) := by decide +kernel
theorem dX1_comesAgain_54 : decode cX1_comesAgain 54 = .ok (.iload_n 2, 1) := by decide +kernel
theorem dX1_comesAgain_55 : decode cX1_comesAgain 55 = .ok (.iadd, 1) := by decide +kernel
theorem dX1_comesAgain_56 : decode cX1_comesAgain 56 = .ok (.i2l, 1) := by decide +kernel
theorem dX1_comesAgain_57 : decode cX1_comesAgain 57 = .ok (.iload 7, 2) := by decide +kernel
theorem dX1_comesAgain_59 : decode cX1_comesAgain 59 = .ok (.iload_n 3, 1) := by decide +kernel
theorem dX1_comesAgain_60 : decode cX1_comesAgain 60 = .ok (.iadd, 1) := by decide +kernel
theorem dX1_comesAgain_61 : decode cX1_comesAgain 61 = .ok (.i2l, 1) := by decide +kernel
theorem dX1_comesAgain_62 : decode cX1_comesAgain 62 = .ok (.invokevirtual 204, 3) := by decide +kernel
theorem dX1_comesAgain_65 : decode cX1_comesAgain 65 = .ok (.ifCond .eq 34, 3) := by decide +kernel
theorem dX1_comesAgain_68 : decode cX1_comesAgain 68 = .ok (.aload_n 0, 1) := by decide +kernel
theorem dX1_comesAgain_69 : decode cX1_comesAgain 69 = .ok (.iload_n 1, 1) := by decide +kernel
theorem dX1_comesAgain_70 : decode cX1_comesAgain 70 = .ok (.iload 4, 2) := by decide +kernel
theorem dX1_comesAgain_72 : decode cX1_comesAgain 72 = .ok (.iload_n 2, 1) := by decide +kernel
theorem dX1_comesAgain_73 : decode cX1_comesAgain 73 = .ok (.iadd, 1) := by decide +kernel
theorem dX1_comesAgain_74 : decode cX1_comesAgain 74 = .ok (.iload 7, 2) := by decide +kernel
theorem dX1_comesAgain_76 : decode cX1_comesAgain 76 = .ok (.iload_n 3, 1) := by decide +kernel
theorem dX1_comesAgain_77 : decode cX1_comesAgain 77 = .ok (.iadd, 1) := by decide +kernel
theorem dX1_comesAgain_78 : decode cX1_comesAgain 78 = .ok (.invokevirtual 212, 3) := by decide +kernel
theorem dX1_comesAgain_81 : decode cX1_comesAgain 81 = .ok (.aload_n 0, 1) := by decide +kernel
theorem dX1_comesAgain_82 : decode cX1_comesAgain 82 = .ok (.getfield 34, 3) := by decide +kernel
theorem dX1_comesAgain_85 : decode cX1_comesAgain 85 = .ok (.bipush 60, 2) := by decide +kernel
theorem dX1_comesAgain_87 : decode cX1_comesAgain 87 = .ok (.iload 5, 2) := by decide +kernel
theorem dX1_comesAgain_89 : decode cX1_comesAgain 89 = .ok (.imul, 1) := by decide +kernel
theorem dX1_comesAgain_90 : decode cX1_comesAgain 90 = .ok (.iload 6, 2) := by decide +kernel
theorem dX1_comesAgain_92 : decode cX1_comesAgain 92 = .ok (.iadd, 1) := by decide +kernel
theorem dX1_comesAgain_93 : decode cX1_comesAgain 93 = .ok (.iaload, 1) := by decide +kernel
theorem dX1_comesAgain_94 : decode cX1_comesAgain 94 = .ok (.if_icmp .eq 5, 3) := by decide +kernel
theorem dX1_comesAgain_97 : decode cX1_comesAgain 97 = .ok (.iconst 0, 1) := by decide +kernel
theorem dX1_comesAgain_98 : decode cX1_comesAgain 98 = .ok (.ireturn, 1) := by decide +kernel
theorem dX1_comesAgain_99 : decode cX1_comesAgain 99 = .ok (.iinc 6 1, 3) := by decide +kernel
theorem dX1_comesAgain_102 : decode cX1_comesAgain 102 = .ok (.goto (-76), 3) := by decide +kernel
theorem dX1_comesAgain_105 : decode cX1_comesAgain 105 = .ok (.iinc 4 1, 3) := by decide +kernel
theorem dX1_comesAgain_108 : decode cX1_comesAgain 108 = .ok (.goto (-105), 3) := by decide +kernel
theorem dX1_comesAgain_111 : decode cX1_comesAgain 111 = .ok (.iconst 1, 1) := by decide +kernel
theorem dX1_comesAgain_112 : decode cX1_comesAgain 112 = .ok (.ireturn, 1) := by decide +kernel
theorem dX1_kept_0 : decode cX1_kept 0 = .ok (.aload_n 0, 1) := by decide +kernel
theorem dX1_kept_1 : decode cX1_kept 1 = .ok (.iload_n 1, 1) := by decide +kernel
theorem dX1_kept_2 : decode cX1_kept 2 = .ok (.invokevirtual 187, 3) := by decide +kernel
theorem dX1_kept_5 : decode cX1_kept 5 = .ok (.ifCond .ne 5, 3) := by decide +kernel
theorem dX1_kept_8 : decode cX1_kept 8 = .ok (.iconst (-1), 1) := by decide +kernel
theorem dX1_kept_9 : decode cX1_kept 9 = .ok (.ireturn, 1) := by decide +kernel
theorem dX1_kept_10 : decode cX1_kept 10 = .ok (.iconst 0, 1) := by decide +kernel
theorem dX1_kept_11 : decode cX1_kept 11 = .ok (.istore_n 2, 1) := by decide +kernel
theorem dX1_kept_12 : decode cX1_kept 12 = .ok (.iconst 0, 1) := by decide +kernel
theorem dX1_kept_13 : decode cX1_kept 13 = .ok (.istore_n 3, 1) := by decide +kernel
theorem dX1_kept_14 : decode cX1_kept 14 = .ok (.iload_n 3, 1) := by decide +kernel
theorem dX1_kept_15 : decode cX1_kept 15 = .ok (.bipush 8, 2) := by decide +kernel
theorem dX1_kept_17 : decode cX1_kept 17 = .ok (.if_icmp .ge 37, 3) := by decide +kernel
theorem dX1_kept_20 : decode cX1_kept 20 = .ok (.aload_n 0, 1) := by decide +kernel
theorem dX1_kept_21 : decode cX1_kept 21 = .ok (.iload_n 1, 1) := by decide +kernel
theorem dX1_kept_22 : decode cX1_kept 22 = .ok (.invokevirtual 275, 3) := by decide +kernel
theorem dX1_kept_25 : decode cX1_kept 25 = .ok (.ifCond .eq 29, 3) := by decide +kernel
theorem dX1_kept_28 : decode cX1_kept 28 = .ok (.iload_n 2, 1) := by decide +kernel
theorem dX1_kept_29 : decode cX1_kept 29 = .ok (.aload_n 0, 1) := by decide +kernel
theorem dX1_kept_30 : decode cX1_kept 30 = .ok (.iload_n 1, 1) := by decide +kernel
theorem dX1_kept_31 : decode cX1_kept 31 = .ok (.iload_n 3, 1) := by decide +kernel
theorem dX1_kept_32 : decode cX1_kept 32 = .ok (.iload_n 1, 1) := by decide +kernel
theorem dX1_kept_33 : decode cX1_kept 33 = .ok (.invokevirtual 278, 3) := by decide +kernel
theorem dX1_kept_36 : decode cX1_kept 36 = .ok (.ifCond .eq 9, 3) := by decide +kernel
theorem dX1_kept_39 : decode cX1_kept 39 = .ok (.iconst 1, 1) := by decide +kernel
theorem dX1_kept_40 : decode cX1_kept 40 = .ok (.iload_n 3, 1) := by decide +kernel
theorem dX1_kept_41 : decode cX1_kept 41 = .ok (.ishl, 1) := by decide +kernel
theorem dX1_kept_42 : decode cX1_kept 42 = .ok (.goto 4, 3) := by decide +kernel
theorem dX1_kept_45 : decode cX1_kept 45 = .ok (.iconst 0, 1) := by decide +kernel
theorem dX1_kept_46 : decode cX1_kept 46 = .ok (.ior, 1) := by decide +kernel
theorem dX1_kept_47 : decode cX1_kept 47 = .ok (.istore_n 2, 1) := by decide +kernel
theorem dX1_kept_48 : decode cX1_kept 48 = .ok (.iinc 3 1, 3) := by decide +kernel
theorem dX1_kept_51 : decode cX1_kept 51 = .ok (.goto (-37), 3) := by decide +kernel
theorem dX1_kept_54 : decode cX1_kept 54 = .ok (.iload_n 2, 1) := by decide +kernel
theorem dX1_kept_55 : decode cX1_kept 55 = .ok (.ireturn, 1) := by decide +kernel
theorem dX1_isFull_0 : decode cX1_isFull 0 = .ok (.aload_n 0, 1) := by decide +kernel
theorem dX1_isFull_1 : decode cX1_isFull 1 = .ok (.getfield 40, 3) := by decide +kernel
theorem dX1_isFull_4 : decode cX1_isFull 4 = .ok (.iload_n 1, 1) := by decide +kernel
theorem dX1_isFull_5 : decode cX1_isFull 5 = .ok (.iaload, 1) := by decide +kernel
theorem dX1_isFull_6 : decode cX1_isFull 6 = .ok (.ifCond .le 21, 3) := by decide +kernel
theorem dX1_isFull_9 : decode cX1_isFull 9 = .ok (.aload_n 0, 1) := by decide +kernel
theorem dX1_isFull_10 : decode cX1_isFull 10 = .ok (.getfield 27, 3) := by decide +kernel
theorem dX1_isFull_13 : decode cX1_isFull 13 = .ok (.aload_n 0, 1) := by decide +kernel
theorem dX1_isFull_14 : decode cX1_isFull 14 = .ok (.iload_n 1, 1) := by decide +kernel
theorem dX1_isFull_15 : decode cX1_isFull 15 = .ok (.iconst 0, 1) := by decide +kernel
theorem dX1_isFull_16 : decode cX1_isFull 16 = .ok (.invokevirtual 175, 3) := by decide +kernel
theorem dX1_isFull_19 : decode cX1_isFull 19 = .ok (.iaload, 1) := by decide +kernel
theorem dX1_isFull_20 : decode cX1_isFull 20 = .ok (.ifCond .le 7, 3) := by decide +kernel
theorem dX1_isFull_23 : decode cX1_isFull 23 = .ok (.iconst 1, 1) := by decide +kernel
theorem dX1_isFull_24 : decode cX1_isFull 24 = .ok (.goto 4, 3) := by decide +kernel
theorem dX1_isFull_27 : decode cX1_isFull 27 = .ok (.iconst 0, 1) := by decide +kernel
theorem dX1_isFull_28 : decode cX1_isFull 28 = .ok (.istore_n 2, 1) := by decide +kernel
theorem dX1_isFull_29 : decode cX1_isFull 29 = .ok (.iconst 0, 1) := by decide +kernel
theorem dX1_isFull_30 : decode cX1_isFull 30 = .ok (.istore_n 3, 1) := by decide +kernel
theorem dX1_isFull_31 : decode cX1_isFull 31 = .ok (.iload_n 2, 1) := by decide +kernel
theorem dX1_isFull_32 : decode cX1_isFull 32 = .ok (.ifCond .eq 64, 3) := by decide +kernel
theorem dX1_isFull_35 : decode cX1_isFull 35 = .ok (.iload_n 3, 1) := by decide +kernel
theorem dX1_isFull_36 : decode cX1_isFull 36 = .ok (.aload_n 0, 1) := by decide +kernel
theorem dX1_isFull_37 : decode cX1_isFull 37 = .ok (.getfield 40, 3) := by decide +kernel
theorem dX1_isFull_40 : decode cX1_isFull 40 = .ok (.iload_n 1, 1) := by decide +kernel
theorem dX1_isFull_41 : decode cX1_isFull 41 = .ok (.iaload, 1) := by decide +kernel
theorem dX1_isFull_42 : decode cX1_isFull 42 = .ok (.if_icmp .ge 54, 3) := by decide +kernel
theorem dX1_isFull_45 : decode cX1_isFull 45 = .ok (.aload_n 0, 1) := by decide +kernel
theorem dX1_isFull_46 : decode cX1_isFull 46 = .ok (.getfield 30, 3) := by decide +kernel
theorem dX1_isFull_49 : decode cX1_isFull 49 = .ok (.aload_n 0, 1) := by decide +kernel
theorem dX1_isFull_50 : decode cX1_isFull 50 = .ok (.iload_n 1, 1) := by decide +kernel
theorem dX1_isFull_51 : decode cX1_isFull 51 = .ok (.iload_n 3, 1) := by decide +kernel
theorem dX1_isFull_52 : decode cX1_isFull 52 = .ok (.invokevirtual 175, 3) := by decide +kernel
theorem dX1_isFull_55 : decode cX1_isFull 55 = .ok (.iaload, 1) := by decide +kernel
theorem dX1_isFull_56 : decode cX1_isFull 56 = .ok (.ifCond .ne 32, 3) := by decide +kernel
theorem dX1_isFull_59 : decode cX1_isFull 59 = .ok (.aload_n 0, 1) := by decide +kernel
theorem dX1_isFull_60 : decode cX1_isFull 60 = .ok (.getfield 27, 3) := by decide +kernel
theorem dX1_isFull_63 : decode cX1_isFull 63 = .ok (.aload_n 0, 1) := by decide +kernel
theorem dX1_isFull_64 : decode cX1_isFull 64 = .ok (.iload_n 1, 1) := by decide +kernel
theorem dX1_isFull_65 : decode cX1_isFull 65 = .ok (.iload_n 3, 1) := by decide +kernel
theorem dX1_isFull_66 : decode cX1_isFull 66 = .ok (.invokevirtual 175, 3) := by decide +kernel
theorem dX1_isFull_69 : decode cX1_isFull 69 = .ok (.iaload, 1) := by decide +kernel
theorem dX1_isFull_70 : decode cX1_isFull 70 = .ok (.aload_n 0, 1) := by decide +kernel
theorem dX1_isFull_71 : decode cX1_isFull 71 = .ok (.getfield 27, 3) := by decide +kernel
theorem dX1_isFull_74 : decode cX1_isFull 74 = .ok (.aload_n 0, 1) := by decide +kernel
theorem dX1_isFull_75 : decode cX1_isFull 75 = .ok (.iload_n 1, 1) := by decide +kernel
theorem dX1_isFull_76 : decode cX1_isFull 76 = .ok (.iconst 0, 1) := by decide +kernel
theorem dX1_isFull_77 : decode cX1_isFull 77 = .ok (.invokevirtual 175, 3) := by decide +kernel
theorem dX1_isFull_80 : decode cX1_isFull 80 = .ok (.iaload, 1) := by decide +kernel
theorem dX1_isFull_81 : decode cX1_isFull 81 = .ok (.if_icmp .ne 7, 3) := by decide +kernel
theorem dX1_isFull_84 : decode cX1_isFull 84 = .ok (.iconst 1, 1) := by decide +kernel
theorem dX1_isFull_85 : decode cX1_isFull 85 = .ok (.goto 4, 3) := by decide +kernel
theorem dX1_isFull_88 : decode cX1_isFull 88 = .ok (.iconst 0, 1) := by decide +kernel
theorem dX1_isFull_89 : decode cX1_isFull 89 = .ok (.istore_n 2, 1) := by decide +kernel
theorem dX1_isFull_90 : decode cX1_isFull 90 = .ok (.iinc 3 1, 3) := by decide +kernel
theorem dX1_isFull_93 : decode cX1_isFull 93 = .ok (.goto (-62), 3) := by decide +kernel
theorem dX1_isFull_96 : decode cX1_isFull 96 = .ok (.iload_n 2, 1) := by decide +kernel
theorem dX1_isFull_97 : decode cX1_isFull 97 = .ok (.ireturn, 1) := by decide +kernel
theorem dX1_isMoved_0 : decode cX1_isMoved 0 = .ok (.iload_n 2, 1) := by decide +kernel
theorem dX1_isMoved_1 : decode cX1_isMoved 1 = .ok (.iconst 1, 1) := by decide +kernel
theorem dX1_isMoved_2 : decode cX1_isMoved 2 = .ok (.iand, 1) := by decide +kernel
theorem dX1_isMoved_3 : decode cX1_isMoved 3 = .ok (.ifCond .ne 12, 3) := by decide +kernel
theorem dX1_isMoved_6 : decode cX1_isMoved 6 = .ok (.aload_n 0, 1) := by decide +kernel
theorem dX1_isMoved_7 : decode cX1_isMoved 7 = .ok (.getfield 40, 3) := by decide +kernel
theorem dX1_isMoved_10 : decode cX1_isMoved 10 = .ok (.iload_n 1, 1) := by decide +kernel
theorem dX1_isMoved_11 : decode cX1_isMoved 11 = .ok (.iaload, 1) := by decide +kernel
theorem dX1_isMoved_12 : decode cX1_isMoved 12 = .ok (.goto 8, 3) := by decide +kernel
theorem dX1_isMoved_15 : decode cX1_isMoved 15 = .ok (.aload_n 0, 1) := by decide +kernel
theorem dX1_isMoved_16 : decode cX1_isMoved 16 = .ok (.iload_n 1, 1) := by decide +kernel
theorem dX1_isMoved_17 : decode cX1_isMoved 17 = .ok (.invokevirtual 269, 3) := by decide +kernel
theorem dX1_isMoved_20 : decode cX1_isMoved 20 = .ok (.istore 4, 2) := by decide +kernel
theorem dX1_isMoved_22 : decode cX1_isMoved 22 = .ok (.iload_n 2, 1) := by decide +kernel
theorem dX1_isMoved_23 : decode cX1_isMoved 23 = .ok (.iconst 1, 1) := by decide +kernel
theorem dX1_isMoved_24 : decode cX1_isMoved 24 = .ok (.iand, 1) := by decide +kernel
theorem dX1_isMoved_25 : decode cX1_isMoved 25 = .ok (.ifCond .ne 11, 3) := by decide +kernel
theorem dX1_isMoved_28 : decode cX1_isMoved 28 = .ok (.aload_n 0, 1) := by decide +kernel
theorem dX1_isMoved_29 : decode cX1_isMoved 29 = .ok (.iload_n 1, 1) := by decide +kernel
theorem dX1_isMoved_30 : decode cX1_isMoved 30 = .ok (.invokevirtual 269, 3) := by decide +kernel
theorem dX1_isMoved_33 : decode cX1_isMoved 33 = .ok (.goto 9, 3) := by decide +kernel
theorem dX1_isMoved_36 : decode cX1_isMoved 36 = .ok (.aload_n 0, 1) := by decide +kernel
theorem dX1_isMoved_37 : decode cX1_isMoved 37 = .ok (.getfield 40, 3) := by decide +kernel
theorem dX1_isMoved_40 : decode cX1_isMoved 40 = .ok (.iload_n 1, 1) := by decide +kernel
theorem dX1_isMoved_41 : decode cX1_isMoved 41 = .ok (.iaload, 1) := by decide +kernel
theorem dX1_isMoved_42 : decode cX1_isMoved 42 = .ok (.istore 5, 2) := by decide +kernel
theorem dX1_isMoved_44 : decode cX1_isMoved 44 = .ok (.iload 4, 2) := by decide +kernel
theorem dX1_isMoved_46 : decode cX1_isMoved 46 = .ok (.aload_n 0, 1) := by decide +kernel
theorem dX1_isMoved_47 : decode cX1_isMoved 47 = .ok (.getfield 40, 3) := by decide +kernel
theorem dX1_isMoved_50 : decode cX1_isMoved 50 = .ok (.iload_n 3, 1) := by decide +kernel
theorem dX1_isMoved_51 : decode cX1_isMoved 51 = .ok (.iaload, 1) := by decide +kernel
theorem dX1_isMoved_52 : decode cX1_isMoved 52 = .ok (.if_icmp .ne 17, 3) := by decide +kernel
theorem dX1_isMoved_55 : decode cX1_isMoved 55 = .ok (.iload 5, 2) := by decide +kernel
theorem dX1_isMoved_57 : decode cX1_isMoved 57 = .ok (.aload_n 0, 1) := by decide +kernel
theorem dX1_isMoved_58 : decode cX1_isMoved 58 = .ok (.iload_n 3, 1) := by decide +kernel
theorem dX1_isMoved_59 : decode cX1_isMoved 59 = .ok (.invokevirtual 269, 3) := by decide +kernel
theorem dX1_isMoved_62 : decode cX1_isMoved 62 = .ok (.if_icmp .ne 7, 3) := by decide +kernel
theorem dX1_isMoved_65 : decode cX1_isMoved 65 = .ok (.iconst 1, 1) := by decide +kernel
theorem dX1_isMoved_66 : decode cX1_isMoved 66 = .ok (.goto 4, 3) := by decide +kernel
theorem dX1_isMoved_69 : decode cX1_isMoved 69 = .ok (.iconst 0, 1) := by decide +kernel
theorem dX1_isMoved_70 : decode cX1_isMoved 70 = .ok (.istore 6, 2) := by decide +kernel
theorem dX1_isMoved_72 : decode cX1_isMoved 72 = .ok (.iconst 0, 1) := by decide +kernel
theorem dX1_isMoved_73 : decode cX1_isMoved 73 = .ok (.istore 7, 2) := by decide +kernel
theorem dX1_isMoved_75 : decode cX1_isMoved 75 = .ok (.iload 6, 2) := by decide +kernel
theorem dX1_isMoved_77 : decode cX1_isMoved 77 = .ok (.ifCond .eq 60, 3) := by decide +kernel
theorem dX1_isMoved_80 : decode cX1_isMoved 80 = .ok (.iload 7, 2) := by decide +kernel
theorem dX1_isMoved_82 : decode cX1_isMoved 82 = .ok (.iload 4, 2) := by decide +kernel
theorem dX1_isMoved_84 : decode cX1_isMoved 84 = .ok (.iload 5, 2) := by decide +kernel
theorem dX1_isMoved_86 : decode cX1_isMoved 86 = .ok (.imul, 1) := by decide +kernel
theorem dX1_isMoved_87 : decode cX1_isMoved 87 = .ok (.if_icmp .ge 50, 3) := by decide +kernel
theorem dX1_isMoved_90 : decode cX1_isMoved 90 = .ok (.aload_n 0, 1) := by decide +kernel
theorem dX1_isMoved_91 : decode cX1_isMoved 91 = .ok (.iload_n 1, 1) := by decide +kernel
theorem dX1_isMoved_92 : decode cX1_isMoved 92 = .ok (.iload_n 2, 1) := by decide +kernel
theorem dX1_isMoved_93 : decode cX1_isMoved 93 = .ok (.iload 7, 2) := by decide +kernel
theorem dX1_isMoved_95 : decode cX1_isMoved 95 = .ok (.iload 5, 2) := by decide +kernel
theorem dX1_isMoved_97 : decode cX1_isMoved 97 = .ok (.idiv, 1) := by decide +kernel
theorem dX1_isMoved_98 : decode cX1_isMoved 98 = .ok (.iload 7, 2) := by decide +kernel
theorem dX1_isMoved_100 : decode cX1_isMoved 100 = .ok (.iload 5, 2) := by decide +kernel
theorem dX1_isMoved_102 : decode cX1_isMoved 102 = .ok (.irem, 1) := by decide +kernel
theorem dX1_isMoved_103 : decode cX1_isMoved 103 = .ok (.invokevirtual 272, 3) := by decide +kernel
theorem dX1_isMoved_106 : decode cX1_isMoved 106 = .ok (.aload_n 0, 1) := by decide +kernel
theorem dX1_isMoved_107 : decode cX1_isMoved 107 = .ok (.iload_n 3, 1) := by decide +kernel
theorem dX1_isMoved_108 : decode cX1_isMoved 108 = .ok (.iload 7, 2) := by decide +kernel
theorem dX1_isMoved_110 : decode cX1_isMoved 110 = .ok (.iload 5, 2) := by decide +kernel
theorem dX1_isMoved_112 : decode cX1_isMoved 112 = .ok (.idiv, 1) := by decide +kernel
theorem dX1_isMoved_113 : decode cX1_isMoved 113 = .ok (.iload 7, 2) := by decide +kernel
theorem dX1_isMoved_115 : decode cX1_isMoved 115 = .ok (.iload 5, 2) := by decide +kernel
theorem dX1_isMoved_117 : decode cX1_isMoved 117 = .ok (.irem, 1) := by decide +kernel
theorem dX1_isMoved_118 : decode cX1_isMoved 118 = .ok (.invokevirtual 212, 3) := by decide +kernel
theorem dX1_isMoved_121 : decode cX1_isMoved 121 = .ok (.if_icmp .ne 7, 3) := by decide +kernel
theorem dX1_isMoved_124 : decode cX1_isMoved 124 = .ok (.iconst 1, 1) := by decide +kernel
theorem dX1_isMoved_125 : decode cX1_isMoved 125 = .ok (.goto 4, 3) := by decide +kernel
theorem dX1_isMoved_128 : decode cX1_isMoved 128 = .ok (.iconst 0, 1) := by decide +kernel
theorem dX1_isMoved_129 : decode cX1_isMoved 129 = .ok (.istore 6, 2) := by decide +kernel
theorem dX1_isMoved_131 : decode cX1_isMoved 131 = .ok (.iinc 7 1, 3) := by decide +kernel
theorem dX1_isMoved_134 : decode cX1_isMoved 134 = .ok (.goto (-59), 3) := by decide +kernel
theorem dX1_isMoved_137 : decode cX1_isMoved 137 = .ok (.iload 6, 2) := by decide +kernel
theorem dX1_isMoved_139 : decode cX1_isMoved 139 = .ok (.ireturn, 1) := by decide +kernel
theorem dX1_wide_0 : decode cX1_wide 0 = .ok (.aload_n 0, 1) := by decide +kernel
theorem dX1_wide_1 : decode cX1_wide 1 = .ok (.getfield 27, 3) := by decide +kernel
theorem dX1_wide_4 : decode cX1_wide 4 = .ok (.aload_n 0, 1) := by decide +kernel
theorem dX1_wide_5 : decode cX1_wide 5 = .ok (.iload_n 1, 1) := by decide +kernel
theorem dX1_wide_6 : decode cX1_wide 6 = .ok (.iconst 0, 1) := by decide +kernel
theorem dX1_wide_7 : decode cX1_wide 7 = .ok (.invokevirtual 175, 3) := by decide +kernel
theorem dX1_wide_10 : decode cX1_wide 10 = .ok (.iaload, 1) := by decide +kernel
theorem dX1_wide_11 : decode cX1_wide 11 = .ok (.ireturn, 1) := by decide +kernel
theorem dX1_movedCell_0 : decode cX1_movedCell 0 = .ok (.aload_n 0, 1) := by decide +kernel
theorem dX1_movedCell_1 : decode cX1_movedCell 1 = .ok (.iload_n 2, 1) := by decide +kernel
theorem dX1_movedCell_2 : decode cX1_movedCell 2 = .ok (.aload_n 0, 1) := by decide +kernel
theorem dX1_movedCell_3 : decode cX1_movedCell 3 = .ok (.getfield 40, 3) := by decide +kernel
theorem dX1_movedCell_6 : decode cX1_movedCell 6 = .ok (.iload_n 1, 1) := by decide +kernel
theorem dX1_movedCell_7 : decode cX1_movedCell 7 = .ok (.iaload, 1) := by decide +kernel
theorem dX1_movedCell_8 : decode cX1_movedCell 8 = .ok (.aload_n 0, 1) := by decide +kernel
theorem dX1_movedCell_9 : decode cX1_movedCell 9 = .ok (.iload_n 1, 1) := by decide +kernel
theorem dX1_movedCell_10 : decode cX1_movedCell 10 = .ok (.invokevirtual 269, 3) := by decide +kernel
theorem dX1_movedCell_13 : decode cX1_movedCell 13 = .ok (.iload_n 3, 1) := by decide +kernel
theorem dX1_movedCell_14 : decode cX1_movedCell 14 = .ok (.iload 4, 2) := by decide +kernel
theorem dX1_movedCell_16 : decode cX1_movedCell 16 = .ok (.invokevirtual 227, 3) := by decide +kernel
theorem dX1_movedCell_19 : decode cX1_movedCell 19 = .ok (.aload_n 0, 1) := by decide +kernel
theorem dX1_movedCell_20 : decode cX1_movedCell 20 = .ok (.aload_n 0, 1) := by decide +kernel
theorem dX1_movedCell_21 : decode cX1_movedCell 21 = .ok (.iload_n 1, 1) := by decide +kernel
theorem dX1_movedCell_22 : decode cX1_movedCell 22 = .ok (.aload_n 0, 1) := by decide +kernel
theorem dX1_movedCell_23 : decode cX1_movedCell 23 = .ok (.getfield 215, 3) := by decide +kernel
theorem dX1_movedCell_26 : decode cX1_movedCell 26 = .ok (.aload_n 0, 1) := by decide +kernel
theorem dX1_movedCell_27 : decode cX1_movedCell 27 = .ok (.getfield 218, 3) := by decide +kernel
theorem dX1_movedCell_30 : decode cX1_movedCell 30 = .ok (.invokevirtual 212, 3) := by decide +kernel
theorem dX1_movedCell_33 : decode cX1_movedCell 33 = .ok (.iload_n 2, 1) := by decide +kernel
theorem dX1_movedCell_34 : decode cX1_movedCell 34 = .ok (.invokevirtual 231, 3) := by decide +kernel
theorem dX1_movedCell_37 : decode cX1_movedCell 37 = .ok (.ireturn, 1) := by decide +kernel
theorem dX1_congruent_0 : decode cX1_congruent 0 = .ok (.aload_n 0, 1) := by decide +kernel
theorem dX1_congruent_1 : decode cX1_congruent 1 = .ok (.iload_n 1, 1) := by decide +kernel
theorem dX1_congruent_2 : decode cX1_congruent 2 = .ok (.invokevirtual 187, 3) := by decide +kernel
theorem dX1_congruent_5 : decode cX1_congruent 5 = .ok (.ifCond .eq 27, 3) := by decide +kernel
theorem dX1_congruent_8 : decode cX1_congruent 8 = .ok (.aload_n 0, 1) := by decide +kernel
theorem dX1_congruent_9 : decode cX1_congruent 9 = .ok (.iload_n 2, 1) := by decide +kernel
theorem dX1_congruent_10 : decode cX1_congruent 10 = .ok (.invokevirtual 187, 3) := by decide +kernel
theorem dX1_congruent_13 : decode cX1_congruent 13 = .ok (.ifCond .eq 19, 3) := by decide +kernel
theorem dX1_congruent_16 : decode cX1_congruent 16 = .ok (.aload_n 0, 1) := by decide +kernel
theorem dX1_congruent_17 : decode cX1_congruent 17 = .ok (.iload_n 1, 1) := by decide +kernel
theorem dX1_congruent_18 : decode cX1_congruent 18 = .ok (.invokevirtual 275, 3) := by decide +kernel
theorem dX1_congruent_21 : decode cX1_congruent 21 = .ok (.ifCond .eq 11, 3) := by decide +kernel
theorem dX1_congruent_24 : decode cX1_congruent 24 = .ok (.aload_n 0, 1) := by decide +kernel
theorem dX1_congruent_25 : decode cX1_congruent 25 = .ok (.iload_n 2, 1) := by decide +kernel
theorem dX1_congruent_26 : decode cX1_congruent 26 = .ok (.invokevirtual 275, 3) := by decide +kernel
theorem dX1_congruent_29 : decode cX1_congruent 29 = .ok (.ifCond .ne 5, 3) := by decide +kernel
theorem dX1_congruent_32 : decode cX1_congruent 32 = .ok (.iconst (-1), 1) := by decide +kernel
theorem dX1_congruent_33 : decode cX1_congruent 33 = .ok (.ireturn, 1) := by decide +kernel
theorem dX1_congruent_34 : decode cX1_congruent 34 = .ok (.iconst 0, 1) := by decide +kernel
theorem dX1_congruent_35 : decode cX1_congruent 35 = .ok (.istore_n 3, 1) := by decide +kernel
theorem dX1_congruent_36 : decode cX1_congruent 36 = .ok (.iload_n 3, 1) := by decide +kernel
theorem dX1_congruent_37 : decode cX1_congruent 37 = .ok (.bipush 8, 2) := by decide +kernel
theorem dX1_congruent_39 : decode cX1_congruent 39 = .ok (.if_icmp .ge 21, 3) := by decide +kernel
theorem dX1_congruent_42 : decode cX1_congruent 42 = .ok (.aload_n 0, 1) := by decide +kernel
theorem dX1_congruent_43 : decode cX1_congruent 43 = .ok (.iload_n 1, 1) := by decide +kernel
theorem dX1_congruent_44 : decode cX1_congruent 44 = .ok (.iload_n 3, 1) := by decide +kernel
theorem dX1_congruent_45 : decode cX1_congruent 45 = .ok (.iload_n 2, 1) := by decide +kernel
theorem dX1_congruent_46 : decode cX1_congruent 46 = .ok (.invokevirtual 278, 3) := by decide +kernel
theorem dX1_congruent_49 : decode cX1_congruent 49 = .ok (.ifCond .eq 5, 3) := by decide +kernel
theorem dX1_congruent_52 : decode cX1_congruent 52 = .ok (.iload_n 3, 1) := by decide +kernel
theorem dX1_congruent_53 : decode cX1_congruent 53 = .ok (.ireturn, 1) := by decide +kernel
theorem dX1_congruent_54 : decode cX1_congruent 54 = .ok (.iinc 3 1, 3) := by decide +kernel
theorem dX1_congruent_57 : decode cX1_congruent 57 = .ok (.goto (-21), 3) := by decide +kernel
theorem dX1_congruent_60 : decode cX1_congruent 60 = .ok (.iconst (-1), 1) := by decide +kernel
theorem dX1_congruent_61 : decode cX1_congruent 61 = .ok (.ireturn, 1) := by decide +kernel
theorem dX1_find_0 : decode cX1_find 0 = .ok (.aload_n 0, 1) := by decide +kernel
theorem dX1_find_1 : decode cX1_find 1 = .ok (.iload_n 1, 1) := by decide +kernel
theorem dX1_find_2 : decode cX1_find 2 = .ok (.invokevirtual 187, 3) := by decide +kernel
theorem dX1_find_5 : decode cX1_find 5 = .ok (.ifCond .eq 23, 3) := by decide +kernel
theorem dX1_find_8 : decode cX1_find 8 = .ok (.aload_n 0, 1) := by decide +kernel
theorem dX1_find_9 : decode cX1_find 9 = .ok (.iload_n 2, 1) := by decide +kernel
theorem dX1_find_10 : decode cX1_find 10 = .ok (.invokevirtual 187, 3) := by decide +kernel
theorem dX1_find_13 : decode cX1_find 13 = .ok (.ifCond .eq 15, 3) := by decide +kernel
theorem dX1_find_16 : decode cX1_find 16 = .ok (.aload_n 0, 1) := by decide +kernel
theorem dX1_find_17 : decode cX1_find 17 = .ok (.iload_n 2, 1) := by decide +kernel
theorem dX1_find_18 : decode cX1_find 18 = .ok (.invokevirtual 275, 3) := by decide +kernel
theorem dX1_find_21 : decode cX1_find 21 = .ok (.ifCond .eq 7, 3) := by decide +kernel
theorem dX1_find_24 : decode cX1_find 24 = .ok (.iload_n 3, 1) := by decide +kernel
theorem dX1_find_25 : decode cX1_find 25 = .ok (.ifCond .ge 5, 3) := by decide +kernel
theorem dX1_find_28 : decode cX1_find 28 = .ok (.iconst (-1), 1) := by decide +kernel
theorem dX1_find_29 : decode cX1_find 29 = .ok (.ireturn, 1) := by decide +kernel
theorem dX1_find_30 : decode cX1_find 30 = .ok (.iload_n 3, 1) := by decide +kernel
theorem dX1_find_31 : decode cX1_find 31 = .ok (.istore 4, 2) := by decide +kernel
theorem dX1_find_33 : decode cX1_find 33 = .ok (.iconst 0, 1) := by decide +kernel
theorem dX1_find_34 : decode cX1_find 34 = .ok (.istore 5, 2) := by decide +kernel
theorem dX1_find_36 : decode cX1_find 36 = .ok (.iload 5, 2) := by decide +kernel
theorem dX1_find_38 : decode cX1_find 38 = .ok (.aload_n 0, 1) := by decide +kernel
theorem dX1_find_39 : decode cX1_find 39 = .ok (.getfield 40, 3) := by decide +kernel
theorem dX1_find_42 : decode cX1_find 42 = .ok (.iload_n 1, 1) := by decide +kernel
theorem dX1_find_43 : decode cX1_find 43 = .ok (.iaload, 1) := by decide +kernel
theorem dX1_find_44 : decode cX1_find 44 = .ok (.if_icmp .ge 105, 3) := by decide +kernel
theorem dX1_find_47 : decode cX1_find 47 = .ok (.aload_n 0, 1) := by decide +kernel
theorem dX1_find_48 : decode cX1_find 48 = .ok (.iload_n 1, 1) := by decide +kernel
theorem dX1_find_49 : decode cX1_find 49 = .ok (.iload 5, 2) := by decide +kernel
theorem dX1_find_51 : decode cX1_find 51 = .ok (.invokevirtual 175, 3) := by decide +kernel
theorem dX1_find_54 : decode cX1_find 54 = .ok (.istore 6, 2) := by decide +kernel
theorem dX1_find_56 : decode cX1_find 56 = .ok (.iconst 0, 1) := by decide +kernel
theorem dX1_find_57 : decode cX1_find 57 = .ok (.istore 7, 2) := by decide +kernel
theorem dX1_find_59 : decode cX1_find 59 = .ok (.iload 7, 2) := by decide +kernel
theorem dX1_find_61 : decode cX1_find 61 = .ok (.aload_n 0, 1) := by decide +kernel
theorem dX1_find_62 : decode cX1_find 62 = .ok (.getfield 27, 3) := by decide +kernel
theorem dX1_find_65 : decode cX1_find 65 = .ok (.iload 6, 2) := by decide +kernel
theorem dX1_find_67 : decode cX1_find 67 = .ok (.iaload, 1) := by decide +kernel
theorem dX1_find_68 : decode cX1_find 68 = .ok (.if_icmp .ge 75, 3) := by decide +kernel
theorem dX1_find_71 : decode cX1_find 71 = .ok (.iconst 0, 1) := by decide +kernel
theorem dX1_find_72 : decode cX1_find 72 = .ok (.istore 8, 2) := by decide +kernel
theorem dX1_find_74 : decode cX1_find 74 = .ok (.iload 8, 2) := by decide +kernel
theorem dX1_find_76 : decode cX1_find 76 = .ok (.bipush 8, 2) := by decide +kernel
theorem dX1_find_78 : decode cX1_find 78 = .ok (.if_icmp .ge 59, 3) := by decide +kernel
theorem dX1_find_81 : decode cX1_find 81 = .ok (.aload_n 0, 1) := by decide +kernel
theorem dX1_find_82 : decode cX1_find 82 = .ok (.iload_n 1, 1) := by decide +kernel
theorem dX1_find_83 : decode cX1_find 83 = .ok (.iload_n 2, 1) := by decide +kernel
theorem dX1_find_84 : decode cX1_find 84 = .ok (.iload 5, 2) := by decide +kernel
theorem dX1_find_86 : decode cX1_find 86 = .ok (.aload_n 0, 1) := by decide +kernel
theorem dX1_find_87 : decode cX1_find 87 = .ok (.getfield 30, 3) := by decide +kernel
theorem dX1_find_90 : decode cX1_find 90 = .ok (.iload 6, 2) := by decide +kernel
theorem dX1_find_92 : decode cX1_find 92 = .ok (.iaload, 1) := by decide +kernel
theorem dX1_find_93 : decode cX1_find 93 = .ok (.iload 7, 2) := by decide +kernel
theorem dX1_find_95 : decode cX1_find 95 = .ok (.iadd, 1) := by decide +kernel
theorem dX1_find_96 : decode cX1_find 96 = .ok (.iload 8, 2) := by decide +kernel
theorem dX1_find_98 : decode cX1_find 98 = .ok (.invokevirtual 281, 3) := by decide +kernel
theorem dX1_find_101 : decode cX1_find 101 = .ok (.ifCond .ne 6, 3) := by decide +kernel
theorem dX1_find_104 : decode cX1_find 104 = .ok (.goto 27, 3) := by decide +kernel
theorem dX1_find_107 : decode cX1_find 107 = .ok (.iload 4, 2) := by decide +kernel
theorem dX1_find_109 : decode cX1_find 109 = .ok (.ifCond .ne 19, 3) := by decide +kernel
theorem dX1_find_112 : decode cX1_find 112 = .ok (.sipush 1000, 3) := by decide +kernel
theorem dX1_find_115 : decode cX1_find 115 = .ok (.iload 5, 2) := by decide +kernel
theorem dX1_find_117 : decode cX1_find 117 = .ok (.imul, 1) := by decide +kernel
theorem dX1_find_118 : decode cX1_find 118 = .ok (.bipush 10, 2) := by decide +kernel
theorem dX1_find_120 : decode cX1_find 120 = .ok (.iload 7, 2) := by decide +kernel
theorem dX1_find_122 : decode cX1_find 122 = .ok (.imul, 1) := by decide +kernel
theorem dX1_find_123 : decode cX1_find 123 = .ok (.iadd, 1) := by decide +kernel
theorem dX1_find_124 : decode cX1_find 124 = .ok (.iload 8, 2) := by decide +kernel
theorem dX1_find_126 : decode cX1_find 126 = .ok (.iadd, 1) := by decide +kernel
theorem dX1_find_127 : decode cX1_find 127 = .ok (.ireturn, 1) := by decide +kernel
theorem dX1_find_128 : decode cX1_find 128 = .ok (.iinc 4 (-1), 3) := by decide +kernel
theorem dX1_find_131 : decode cX1_find 131 = .ok (.iinc 8 1, 3) := by decide +kernel
theorem dX1_find_134 : decode cX1_find 134 = .ok (.goto (-60), 3) := by decide +kernel
theorem dX1_find_137 : decode cX1_find 137 = .ok (.iinc 7 1, 3) := by decide +kernel
theorem dX1_find_140 : decode cX1_find 140 = .ok (.goto (-81), 3) := by decide +kernel
theorem dX1_find_143 : decode cX1_find 143 = .ok (.iinc 5 1, 3) := by decide +kernel
theorem dX1_find_146 : decode cX1_find 146 = .ok (.goto (-110), 3) := by decide +kernel
theorem dX1_find_149 : decode cX1_find 149 = .ok (.iconst (-1), 1) := by decide +kernel
theorem dX1_find_150 : decode cX1_find 150 = .ok (.ireturn, 1) := by decide +kernel
theorem dX1_isFound_0 : decode cX1_isFound 0 = .ok (.iload 5, 2) := by decide +kernel
theorem dX1_isFound_2 : decode cX1_isFound 2 = .ok (.iconst 1, 1) := by decide +kernel
theorem dX1_isFound_3 : decode cX1_isFound 3 = .ok (.iand, 1) := by decide +kernel
theorem dX1_isFound_4 : decode cX1_isFound 4 = .ok (.ifCond .ne 12, 3) := by decide +kernel
theorem dX1_isFound_7 : decode cX1_isFound 7 = .ok (.aload_n 0, 1) := by decide +kernel
theorem dX1_isFound_8 : decode cX1_isFound 8 = .ok (.getfield 40, 3) := by decide +kernel
theorem dX1_isFound_11 : decode cX1_isFound 11 = .ok (.iload_n 2, 1) := by decide +kernel
theorem dX1_isFound_12 : decode cX1_isFound 12 = .ok (.iaload, 1) := by decide +kernel
theorem dX1_isFound_13 : decode cX1_isFound 13 = .ok (.goto 8, 3) := by decide +kernel
theorem dX1_isFound_16 : decode cX1_isFound 16 = .ok (.aload_n 0, 1) := by decide +kernel
theorem dX1_isFound_17 : decode cX1_isFound 17 = .ok (.iload_n 2, 1) := by decide +kernel
theorem dX1_isFound_18 : decode cX1_isFound 18 = .ok (.invokevirtual 269, 3) := by decide +kernel
theorem dX1_isFound_21 : decode cX1_isFound 21 = .ok (.istore 6, 2) := by decide +kernel
theorem dX1_isFound_23 : decode cX1_isFound 23 = .ok (.iload 5, 2) := by decide +kernel
theorem dX1_isFound_25 : decode cX1_isFound 25 = .ok (.iconst 1, 1) := by decide +kernel
theorem dX1_isFound_26 : decode cX1_isFound 26 = .ok (.iand, 1) := by decide +kernel
theorem dX1_isFound_27 : decode cX1_isFound 27 = .ok (.ifCond .ne 11, 3) := by decide +kernel
theorem dX1_isFound_30 : decode cX1_isFound 30 = .ok (.aload_n 0, 1) := by decide +kernel
theorem dX1_isFound_31 : decode cX1_isFound 31 = .ok (.iload_n 2, 1) := by decide +kernel
theorem dX1_isFound_32 : decode cX1_isFound 32 = .ok (.invokevirtual 269, 3) := by decide +kernel
theorem dX1_isFound_35 : decode cX1_isFound 35 = .ok (.goto 9, 3) := by decide +kernel
theorem dX1_isFound_38 : decode cX1_isFound 38 = .ok (.aload_n 0, 1) := by decide +kernel
theorem dX1_isFound_39 : decode cX1_isFound 39 = .ok (.getfield 40, 3) := by decide +kernel
theorem dX1_isFound_42 : decode cX1_isFound 42 = .ok (.iload_n 2, 1) := by decide +kernel
theorem dX1_isFound_43 : decode cX1_isFound 43 = .ok (.iaload, 1) := by decide +kernel
theorem dX1_isFound_44 : decode cX1_isFound 44 = .ok (.istore 7, 2) := by decide +kernel
theorem dX1_isFound_46 : decode cX1_isFound 46 = .ok (.iconst 1, 1) := by decide +kernel
theorem dX1_isFound_47 : decode cX1_isFound 47 = .ok (.istore 8, 2) := by decide +kernel
theorem dX1_isFound_49 : decode cX1_isFound 49 = .ok (.iconst 0, 1) := by decide +kernel
theorem dX1_isFound_50 : decode cX1_isFound 50 = .ok (.istore 9, 2) := by decide +kernel
theorem dX1_isFound_52 : decode cX1_isFound 52 = .ok (.iload 8, 2) := by decide +kernel
theorem dX1_isFound_54 : decode cX1_isFound 54 = .ok (.ifCond .eq 91, 3) := by decide +kernel
theorem dX1_isFound_57 : decode cX1_isFound 57 = .ok (.iload 9, 2) := by decide +kernel
theorem dX1_isFound_59 : decode cX1_isFound 59 = .ok (.iload 6, 2) := by decide +kernel
theorem dX1_isFound_61 : decode cX1_isFound 61 = .ok (.iload 7, 2) := by decide +kernel
theorem dX1_isFound_63 : decode cX1_isFound 63 = .ok (.imul, 1) := by decide +kernel
theorem dX1_isFound_64 : decode cX1_isFound 64 = .ok (.if_icmp .ge 81, 3) := by decide +kernel
theorem dX1_isFound_67 : decode cX1_isFound 67 = .ok (.aload_n 0, 1) := by decide +kernel
theorem dX1_isFound_68 : decode cX1_isFound 68 = .ok (.iload_n 1, 1) := by decide +kernel
theorem dX1_isFound_69 : decode cX1_isFound 69 = .ok (.iload_n 3, 1) := by decide +kernel
theorem dX1_isFound_70 : decode cX1_isFound 70 = .ok (.iload 9, 2) := by decide +kernel
theorem dX1_isFound_72 : decode cX1_isFound 72 = .ok (.iload 7, 2) := by decide +kernel
theorem dX1_isFound_74 : decode cX1_isFound 74 = .ok (.idiv, 1) := by decide +kernel
theorem dX1_isFound_75 : decode cX1_isFound 75 = .ok (.iadd, 1) := by decide +kernel
theorem dX1_isFound_76 : decode cX1_isFound 76 = .ok (.i2l, 1) := by decide +kernel
theorem dX1_isFound_77 : decode cX1_isFound 77 = .ok (.iload 4, 2) := by decide +kernel
theorem dX1_isFound_79 : decode cX1_isFound 79 = .ok (.iload 9, 2) := by decide +kernel
theorem dX1_isFound_81 : decode cX1_isFound 81 = .ok (.iload 7, 2) := by decide +kernel
theorem dX1_isFound_83 : decode cX1_isFound 83 = .ok (.irem, 1) := by decide +kernel
theorem dX1_isFound_84 : decode cX1_isFound 84 = .ok (.iadd, 1) := by decide +kernel
theorem dX1_isFound_85 : decode cX1_isFound 85 = .ok (.i2l, 1) := by decide +kernel
theorem dX1_isFound_86 : decode cX1_isFound 86 = .ok (.invokevirtual 204, 3) := by decide +kernel
theorem dX1_isFound_89 : decode cX1_isFound 89 = .ok (.ifCond .eq 47, 3) := by decide +kernel
theorem dX1_isFound_92 : decode cX1_isFound 92 = .ok (.aload_n 0, 1) := by decide +kernel
theorem dX1_isFound_93 : decode cX1_isFound 93 = .ok (.iload_n 1, 1) := by decide +kernel
theorem dX1_isFound_94 : decode cX1_isFound 94 = .ok (.iload_n 3, 1) := by decide +kernel
theorem dX1_isFound_95 : decode cX1_isFound 95 = .ok (.iload 9, 2) := by decide +kernel
theorem dX1_isFound_97 : decode cX1_isFound 97 = .ok (.iload 7, 2) := by decide +kernel
theorem dX1_isFound_99 : decode cX1_isFound 99 = .ok (.idiv, 1) := by decide +kernel
theorem dX1_isFound_100 : decode cX1_isFound 100 = .ok (.iadd, 1) := by decide +kernel
theorem dX1_isFound_101 : decode cX1_isFound 101 = .ok (.iload 4, 2) := by decide +kernel
theorem dX1_isFound_103 : decode cX1_isFound 103 = .ok (.iload 9, 2) := by decide +kernel
theorem dX1_isFound_105 : decode cX1_isFound 105 = .ok (.iload 7, 2) := by decide +kernel
theorem dX1_isFound_107 : decode cX1_isFound 107 = .ok (.irem, 1) := by decide +kernel
theorem dX1_isFound_108 : decode cX1_isFound 108 = .ok (.iadd, 1) := by decide +kernel
theorem dX1_isFound_109 : decode cX1_isFound 109 = .ok (.invokevirtual 212, 3) := by decide +kernel
theorem dX1_isFound_112 : decode cX1_isFound 112 = .ok (.aload_n 0, 1) := by decide +kernel
theorem dX1_isFound_113 : decode cX1_isFound 113 = .ok (.iload_n 2, 1) := by decide +kernel
theorem dX1_isFound_114 : decode cX1_isFound 114 = .ok (.iload 5, 2) := by decide +kernel
theorem dX1_isFound_116 : decode cX1_isFound 116 = .ok (.iload 9, 2) := by decide +kernel
theorem dX1_isFound_118 : decode cX1_isFound 118 = .ok (.iload 7, 2) := by decide +kernel
theorem dX1_isFound_120 : decode cX1_isFound 120 = .ok (.idiv, 1) := by decide +kernel
theorem dX1_isFound_121 : decode cX1_isFound 121 = .ok (.iload 9, 2) := by decide +kernel
theorem dX1_isFound_123 : decode cX1_isFound 123 = .ok (.iload 7, 2) := by decide +kernel
theorem dX1_isFound_125 : decode cX1_isFound 125 = .ok (.irem, 1) := by decide +kernel
theorem dX1_isFound_126 : decode cX1_isFound 126 = .ok (.invokevirtual 272, 3) := by decide +kernel
theorem dX1_isFound_129 : decode cX1_isFound 129 = .ok (.if_icmp .ne 7, 3) := by decide +kernel
theorem dX1_isFound_132 : decode cX1_isFound 132 = .ok (.iconst 1, 1) := by decide +kernel
theorem dX1_isFound_133 : decode cX1_isFound 133 = .ok (.goto 4, 3) := by decide +kernel
theorem dX1_isFound_136 : decode cX1_isFound 136 = .ok (.iconst 0, 1) := by decide +kernel
theorem dX1_isFound_137 : decode cX1_isFound 137 = .ok (.istore 8, 2) := by decide +kernel
theorem dX1_isFound_139 : decode cX1_isFound 139 = .ok (.iinc 9 1, 3) := by decide +kernel
theorem dX1_isFound_142 : decode cX1_isFound 142 = .ok (.goto (-90), 3) := by decide +kernel
theorem dX1_isFound_145 : decode cX1_isFound 145 = .ok (.iload 8, 2) := by decide +kernel
theorem dX1_isFound_147 : decode cX1_isFound 147 = .ok (.ireturn, 1) := by decide +kernel
theorem dX1_floor_0 : decode cX1_floor 0 = .ok (.aload_n 0, 1) := by decide +kernel
theorem dX1_floor_1 : decode cX1_floor 1 = .ok (.getfield 285, 3) := by decide +kernel
theorem dX1_floor_4 : decode cX1_floor 4 = .ok (.bipush 6, 2) := by decide +kernel
theorem dX1_floor_6 : decode cX1_floor 6 = .ok (.if_icmp .eq 25, 3) := by decide +kernel
theorem dX1_floor_9 : decode cX1_floor 9 = .ok (.iload_n 1, 1) := by decide +kernel
theorem dX1_floor_10 : decode cX1_floor 10 = .ok (.iconst 1, 1) := by decide +kernel
theorem dX1_floor_11 : decode cX1_floor 11 = .ok (.if_icmp .lt 20, 3) := by decide +kernel
theorem dX1_floor_14 : decode cX1_floor 14 = .ok (.iload_n 1, 1) := by decide +kernel
theorem dX1_floor_15 : decode cX1_floor 15 = .ok (.bipush 8, 2) := by decide +kernel
theorem dX1_floor_17 : decode cX1_floor 17 = .ok (.if_icmp .gt 14, 3) := by decide +kernel
theorem dX1_floor_20 : decode cX1_floor 20 = .ok (.iload_n 2, 1) := by decide +kernel
theorem dX1_floor_21 : decode cX1_floor 21 = .ok (.iconst 1, 1) := by decide +kernel
theorem dX1_floor_22 : decode cX1_floor 22 = .ok (.if_icmp .lt 9, 3) := by decide +kernel
theorem dX1_floor_25 : decode cX1_floor 25 = .ok (.iload_n 2, 1) := by decide +kernel
theorem dX1_floor_26 : decode cX1_floor 26 = .ok (.bipush 8, 2) := by decide +kernel
theorem dX1_floor_28 : decode cX1_floor 28 = .ok (.if_icmp .le 5, 3) := by decide +kernel
theorem dX1_floor_31 : decode cX1_floor 31 = .ok (.iconst (-1), 1) := by decide +kernel
theorem dX1_floor_32 : decode cX1_floor 32 = .ok (.ireturn, 1) := by decide +kernel
theorem dX1_floor_33 : decode cX1_floor 33 = .ok (.aload_n 0, 1) := by decide +kernel
theorem dX1_floor_34 : decode cX1_floor 34 = .ok (.getfield 88, 3) := by decide +kernel
theorem dX1_floor_37 : decode cX1_floor 37 = .ok (.aload_n 0, 1) := by decide +kernel
theorem dX1_floor_38 : decode cX1_floor 38 = .ok (.getfield 285, 3) := by decide +kernel
theorem dX1_floor_41 : decode cX1_floor 41 = .ok (.iload_n 1, 1) := by decide +kernel
theorem dX1_floor_42 : decode cX1_floor 42 = .ok (.iastore, 1) := by decide +kernel
theorem dX1_floor_43 : decode cX1_floor 43 = .ok (.aload_n 0, 1) := by decide +kernel
theorem dX1_floor_44 : decode cX1_floor 44 = .ok (.getfield 91, 3) := by decide +kernel
theorem dX1_floor_47 : decode cX1_floor 47 = .ok (.aload_n 0, 1) := by decide +kernel
theorem dX1_floor_48 : decode cX1_floor 48 = .ok (.getfield 285, 3) := by decide +kernel
theorem dX1_floor_51 : decode cX1_floor 51 = .ok (.iload_n 2, 1) := by decide +kernel
theorem dX1_floor_52 : decode cX1_floor 52 = .ok (.iastore, 1) := by decide +kernel
theorem dX1_floor_53 : decode cX1_floor 53 = .ok (.iconst 0, 1) := by decide +kernel
theorem dX1_floor_54 : decode cX1_floor 54 = .ok (.istore_n 3, 1) := by decide +kernel
theorem dX1_floor_55 : decode cX1_floor 55 = .ok (.iload_n 3, 1) := by decide +kernel
theorem dX1_floor_56 : decode cX1_floor 56 = .ok (.bipush 64, 2) := by decide +kernel
theorem dX1_floor_58 : decode cX1_floor 58 = .ok (.if_icmp .ge 39, 3) := by decide +kernel
theorem dX1_floor_61 : decode cX1_floor 61 = .ok (.aload_n 0, 1) := by decide +kernel
theorem dX1_floor_62 : decode cX1_floor 62 = .ok (.getfield 94, 3) := by decide +kernel
theorem dX1_floor_65 : decode cX1_floor 65 = .ok (.bipush 64, 2) := by decide +kernel
theorem dX1_floor_67 : decode cX1_floor 67 = .ok (.aload_n 0, 1) := by decide +kernel
theorem dX1_floor_68 : decode cX1_floor 68 = .ok (.getfield 285, 3) := by decide +kernel
theorem dX1_floor_71 : decode cX1_floor 71 = .ok (.imul, 1) := by decide +kernel
theorem dX1_floor_72 : decode cX1_floor 72 = .ok (.iload_n 3, 1) := by decide +kernel
theorem dX1_floor_73 : decode cX1_floor 73 = .ok (.iadd, 1) := by decide +kernel
theorem dX1_floor_74 : decode cX1_floor 74 = .ok (.iconst 0, 1) := by decide +kernel
theorem dX1_floor_75 : decode cX1_floor 75 = .ok (.iastore, 1) := by decide +kernel
theorem dX1_floor_76 : decode cX1_floor 76 = .ok (.aload_n 0, 1) := by decide +kernel
theorem dX1_floor_77 : decode cX1_floor 77 = .ok (.getfield 97, 3) := by decide +kernel
theorem dX1_floor_80 : decode cX1_floor 80 = .ok (.bipush 64, 2) := by decide +kernel
theorem dX1_floor_82 : decode cX1_floor 82 = .ok (.aload_n 0, 1) := by decide +kernel
theorem dX1_floor_83 : decode cX1_floor 83 = .ok (.getfield 285, 3) := by decide +kernel
theorem dX1_floor_86 : decode cX1_floor 86 = .ok (.imul, 1) := by decide +kernel
theorem dX1_floor_87 : decode cX1_floor 87 = .ok (.iload_n 3, 1) := by decide +kernel
theorem dX1_floor_88 : decode cX1_floor 88 = .ok (.iadd, 1) := by decide +kernel
theorem dX1_floor_89 : decode cX1_floor 89 = .ok (.iconst 0, 1) := by decide +kernel
theorem dX1_floor_90 : decode cX1_floor 90 = .ok (.iastore, 1) := by decide +kernel
theorem dX1_floor_91 : decode cX1_floor 91 = .ok (.iinc 3 1, 3) := by decide +kernel
theorem dX1_floor_94 : decode cX1_floor 94 = .ok (.goto (-39), 3) := by decide +kernel
theorem dX1_floor_97 : decode cX1_floor 97 = .ok (.iconst 0, 1) := by decide +kernel
theorem dX1_floor_98 : decode cX1_floor 98 = .ok (.istore_n 3, 1) := by decide +kernel
theorem dX1_floor_99 : decode cX1_floor 99 = .ok (.iload_n 3, 1) := by decide +kernel
theorem dX1_floor_100 : decode cX1_floor 100 = .ok (.bipush 40, 2) := by decide +kernel
theorem dX1_floor_102 : decode cX1_floor 102 = .ok (.if_icmp .ge 24, 3) := by decide +kernel
theorem dX1_floor_105 : decode cX1_floor 105 = .ok (.aload_n 0, 1) := by decide +kernel
theorem dX1_floor_106 : decode cX1_floor 106 = .ok (.getfield 100, 3) := by decide +kernel
theorem dX1_floor_109 : decode cX1_floor 109 = .ok (.bipush 40, 2) := by decide +kernel
theorem dX1_floor_111 : decode cX1_floor 111 = .ok (.aload_n 0, 1) := by decide +kernel
theorem dX1_floor_112 : decode cX1_floor 112 = .ok (.getfield 285, 3) := by decide +kernel
theorem dX1_floor_115 : decode cX1_floor 115 = .ok (.imul, 1) := by decide +kernel
theorem dX1_floor_116 : decode cX1_floor 116 = .ok (.iload_n 3, 1) := by decide +kernel
theorem dX1_floor_117 : decode cX1_floor 117 = .ok (.iadd, 1) := by decide +kernel
theorem dX1_floor_118 : decode cX1_floor 118 = .ok (.iconst 0, 1) := by decide +kernel
theorem dX1_floor_119 : decode cX1_floor 119 = .ok (.iastore, 1) := by decide +kernel
theorem dX1_floor_120 : decode cX1_floor 120 = .ok (.iinc 3 1, 3) := by decide +kernel
theorem dX1_floor_123 : decode cX1_floor 123 = .ok (.goto (-24), 3) := by decide +kernel
theorem dX1_floor_126 : decode cX1_floor 126 = .ok (.aload_n 0, 1) := by decide +kernel
theorem dX1_floor_127 : decode cX1_floor 127 = .ok (.dup, 1) := by decide +kernel
theorem dX1_floor_128 : decode cX1_floor 128 = .ok (.getfield 285, 3) := by decide +kernel
theorem dX1_floor_131 : decode cX1_floor 131 = .ok (.iconst 1, 1) := by decide +kernel
theorem dX1_floor_132 : decode cX1_floor 132 = .ok (.iadd, 1) := by decide +kernel
theorem dX1_floor_133 : decode cX1_floor 133 = .ok (.putfield 285, 3) := by decide +kernel
theorem dX1_floor_136 : decode cX1_floor 136 = .ok (.aload_n 0, 1) := by decide +kernel
theorem dX1_floor_137 : decode cX1_floor 137 = .ok (.getfield 285, 3) := by decide +kernel
theorem dX1_floor_140 : decode cX1_floor 140 = .ok (.iconst 1, 1) := by decide +kernel
theorem dX1_floor_141 : decode cX1_floor 141 = .ok (.isub, 1) := by decide +kernel
theorem dX1_floor_142 : decode cX1_floor 142 = .ok (.ireturn, 1) := by decide +kernel
theorem dX1_place_0 : decode cX1_place 0 = .ok (.aload_n 0, 1) := by decide +kernel
theorem dX1_place_1 : decode cX1_place 1 = .ok (.iload_n 1, 1) := by decide +kernel
theorem dX1_place_2 : decode cX1_place 2 = .ok (.iload_n 2, 1) := by decide +kernel
theorem dX1_place_3 : decode cX1_place 3 = .ok (.iload_n 3, 1) := by decide +kernel
theorem dX1_place_4 : decode cX1_place 4 = .ok (.invokevirtual 291, 3) := by decide +kernel
theorem dX1_place_7 : decode cX1_place 7 = .ok (.ifCond .eq 33, 3) := by decide +kernel
theorem dX1_place_10 : decode cX1_place 10 = .ok (.iload 4, 2) := by decide +kernel
theorem dX1_place_12 : decode cX1_place 12 = .ok (.bipush (-2), 2) := by decide +kernel
theorem dX1_place_14 : decode cX1_place 14 = .ok (.if_icmp .eq 28, 3) := by decide +kernel
theorem dX1_place_17 : decode cX1_place 17 = .ok (.iload 4, 2) := by decide +kernel
theorem dX1_place_19 : decode cX1_place 19 = .ok (.iconst (-1), 1) := by decide +kernel
theorem dX1_place_20 : decode cX1_place 20 = .ok (.if_icmp .eq 22, 3) := by decide +kernel
theorem dX1_place_23 : decode cX1_place 23 = .ok (.aload_n 0, 1) := by decide +kernel
theorem dX1_place_24 : decode cX1_place 24 = .ok (.iload 4, 2) := by decide +kernel
theorem dX1_place_26 : decode cX1_place 26 = .ok (.invokevirtual 145, 3) := by decide +kernel
theorem dX1_place_29 : decode cX1_place 29 = .ok (.ifCond .eq 11, 3) := by decide +kernel
theorem dX1_place_32 : decode cX1_place 32 = .ok (.iload 5, 2) := by decide +kernel
theorem dX1_place_34 : decode cX1_place 34 = .ok (.invokestatic 137, 3) := by decide +kernel
theorem dX1_place_37 : decode cX1_place 37 = .ok (.ifCond .ne 5, 3) := by decide +kernel
theorem dX1_place_40 : decode cX1_place 40 = .ok (.iconst 0, 1) := by decide +kernel
theorem dX1_place_41 : decode cX1_place 41 = .ok (.ireturn, 1) := by decide +kernel
theorem dX1_place_42 : decode cX1_place 42 = .ok (.bipush 64, 2) := by decide +kernel
theorem dX1_place_44 : decode cX1_place 44 = .ok (.iload_n 1, 1) := by decide +kernel
theorem dX1_place_45 : decode cX1_place 45 = .ok (.imul, 1) := by decide +kernel
theorem dX1_place_46 : decode cX1_place 46 = .ok (.bipush 8, 2) := by decide +kernel
theorem dX1_place_48 : decode cX1_place 48 = .ok (.iload_n 2, 1) := by decide +kernel
theorem dX1_place_49 : decode cX1_place 49 = .ok (.imul, 1) := by decide +kernel
theorem dX1_place_50 : decode cX1_place 50 = .ok (.iadd, 1) := by decide +kernel
theorem dX1_place_51 : decode cX1_place 51 = .ok (.iload_n 3, 1) := by decide +kernel
theorem dX1_place_52 : decode cX1_place 52 = .ok (.iadd, 1) := by decide +kernel
theorem dX1_place_53 : decode cX1_place 53 = .ok (.istore 6, 2) := by decide +kernel
theorem dX1_place_55 : decode cX1_place 55 = .ok (.aload_n 0, 1) := by decide +kernel
theorem dX1_place_56 : decode cX1_place 56 = .ok (.getfield 94, 3) := by decide +kernel
theorem dX1_place_59 : decode cX1_place 59 = .ok (.iload 6, 2) := by decide +kernel
theorem dX1_place_61 : decode cX1_place 61 = .ok (.iload 4, 2) := by decide +kernel
theorem dX1_place_63 : decode cX1_place 63 = .ok (.bipush (-2), 2) := by decide +kernel
theorem dX1_place_65 : decode cX1_place 65 = .ok (.if_icmp .ne 8, 3) := by decide +kernel
theorem dX1_place_68 : decode cX1_place 68 = .ok (.bipush (-2), 2) := by decide +kernel
theorem dX1_place_70 : decode cX1_place 70 = .ok (.goto 27, 3) := by decide +kernel
theorem dX1_place_73 : decode cX1_place 73 = .ok (.iload 4, 2) := by decide +kernel
theorem dX1_place_75 : decode cX1_place 75 = .ok (.iconst (-1), 1) := by decide +kernel
theorem dX1_place_76 : decode cX1_place 76 = .ok (.if_icmp .ne 7, 3) := by decide +kernel
theorem dX1_place_79 : decode cX1_place 79 = .ok (.iconst 0, 1) := by decide +kernel
theorem dX1_place_80 : decode cX1_place 80 = .ok (.goto 17, 3) := by decide +kernel
theorem dX1_place_83 : decode cX1_place 83 = .ok (.iload 4, 2) := by decide +kernel
theorem dX1_place_85 : decode cX1_place 85 = .ok (.aload_n 0, 1) := by decide +kernel
theorem dX1_place_86 : decode cX1_place 86 = .ok (.iload 4, 2) := by decide +kernel
theorem dX1_place_88 : decode cX1_place 88 = .ok (.iload 5, 2) := by decide +kernel
theorem dX1_place_90 : decode cX1_place 90 = .ok (.invokevirtual 148, 3) := by decide +kernel
theorem dX1_place_93 : decode cX1_place 93 = .ok (.iconst 0, 1) := by decide +kernel
theorem dX1_place_94 : decode cX1_place 94 = .ok (.invokestatic 166, 3) := by decide +kernel
theorem dX1_place_97 : decode cX1_place 97 = .ok (.iastore, 1) := by decide +kernel
theorem dX1_place_98 : decode cX1_place 98 = .ok (.aload_n 0, 1) := by decide +kernel
theorem dX1_place_99 : decode cX1_place 99 = .ok (.getfield 97, 3) := by decide +kernel
theorem dX1_place_102 : decode cX1_place 102 = .ok (.iload 6, 2) := by decide +kernel
theorem dX1_place_104 : decode cX1_place 104 = .ok (.iconst 0, 1) := by decide +kernel
theorem dX1_place_105 : decode cX1_place 105 = .ok (.iastore, 1) := by decide +kernel
theorem dX1_place_106 : decode cX1_place 106 = .ok (.iconst 1, 1) := by decide +kernel
theorem dX1_place_107 : decode cX1_place 107 = .ok (.ireturn, 1) := by decide +kernel
theorem dX1_isPlace_0 : decode cX1_isPlace 0 = .ok (.aload_n 0, 1) := by decide +kernel
theorem dX1_isPlace_1 : decode cX1_isPlace 1 = .ok (.iload_n 1, 1) := by decide +kernel
theorem dX1_isPlace_2 : decode cX1_isPlace 2 = .ok (.invokevirtual 288, 3) := by decide +kernel
theorem dX1_isPlace_5 : decode cX1_isPlace 5 = .ok (.ifCond .eq 35, 3) := by decide +kernel
theorem dX1_isPlace_8 : decode cX1_isPlace 8 = .ok (.iload_n 2, 1) := by decide +kernel
theorem dX1_isPlace_9 : decode cX1_isPlace 9 = .ok (.ifCond .lt 31, 3) := by decide +kernel
theorem dX1_isPlace_12 : decode cX1_isPlace 12 = .ok (.iload_n 2, 1) := by decide +kernel
theorem dX1_isPlace_13 : decode cX1_isPlace 13 = .ok (.aload_n 0, 1) := by decide +kernel
theorem dX1_isPlace_14 : decode cX1_isPlace 14 = .ok (.getfield 88, 3) := by decide +kernel
theorem dX1_isPlace_17 : decode cX1_isPlace 17 = .ok (.iload_n 1, 1) := by decide +kernel
theorem dX1_isPlace_18 : decode cX1_isPlace 18 = .ok (.iaload, 1) := by decide +kernel
theorem dX1_isPlace_19 : decode cX1_isPlace 19 = .ok (.if_icmp .ge 21, 3) := by decide +kernel
theorem dX1_isPlace_22 : decode cX1_isPlace 22 = .ok (.iload_n 3, 1) := by decide +kernel
theorem dX1_isPlace_23 : decode cX1_isPlace 23 = .ok (.ifCond .lt 17, 3) := by decide +kernel
theorem dX1_isPlace_26 : decode cX1_isPlace 26 = .ok (.iload_n 3, 1) := by decide +kernel
theorem dX1_isPlace_27 : decode cX1_isPlace 27 = .ok (.aload_n 0, 1) := by decide +kernel
theorem dX1_isPlace_28 : decode cX1_isPlace 28 = .ok (.getfield 91, 3) := by decide +kernel
theorem dX1_isPlace_31 : decode cX1_isPlace 31 = .ok (.iload_n 1, 1) := by decide +kernel
theorem dX1_isPlace_32 : decode cX1_isPlace 32 = .ok (.iaload, 1) := by decide +kernel
theorem dX1_isPlace_33 : decode cX1_isPlace 33 = .ok (.if_icmp .ge 7, 3) := by decide +kernel
theorem dX1_isPlace_36 : decode cX1_isPlace 36 = .ok (.iconst 1, 1) := by decide +kernel
theorem dX1_isPlace_37 : decode cX1_isPlace 37 = .ok (.goto 4, 3) := by decide +kernel
theorem dX1_isPlace_40 : decode cX1_isPlace 40 = .ok (.iconst 0, 1) := by decide +kernel
theorem dX1_isPlace_41 : decode cX1_isPlace 41 = .ok (.ireturn, 1) := by decide +kernel
theorem dX1_isFloor_0 : decode cX1_isFloor 0 = .ok (.iload_n 1, 1) := by decide +kernel
theorem dX1_isFloor_1 : decode cX1_isFloor 1 = .ok (.ifCond .lt 15, 3) := by decide +kernel
theorem dX1_isFloor_4 : decode cX1_isFloor 4 = .ok (.iload_n 1, 1) := by decide +kernel
theorem dX1_isFloor_5 : decode cX1_isFloor 5 = .ok (.aload_n 0, 1) := by decide +kernel
theorem dX1_isFloor_6 : decode cX1_isFloor 6 = .ok (.getfield 285, 3) := by decide +kernel
theorem dX1_isFloor_9 : decode cX1_isFloor 9 = .ok (.if_icmp .ge 7, 3) := by decide +kernel
theorem dX1_isFloor_12 : decode cX1_isFloor 12 = .ok (.iconst 1, 1) := by decide +kernel
theorem dX1_isFloor_13 : decode cX1_isFloor 13 = .ok (.goto 4, 3) := by decide +kernel
theorem dX1_isFloor_16 : decode cX1_isFloor 16 = .ok (.iconst 0, 1) := by decide +kernel
theorem dX1_isFloor_17 : decode cX1_isFloor 17 = .ok (.ireturn, 1) := by decide +kernel
theorem dX1_stock_0 : decode cX1_stock 0 = .ok (.aload_n 0, 1) := by decide +kernel
theorem dX1_stock_1 : decode cX1_stock 1 = .ok (.iload_n 1, 1) := by decide +kernel
theorem dX1_stock_2 : decode cX1_stock 2 = .ok (.invokevirtual 288, 3) := by decide +kernel
theorem dX1_stock_5 : decode cX1_stock 5 = .ok (.ifCond .eq 21, 3) := by decide +kernel
theorem dX1_stock_8 : decode cX1_stock 8 = .ok (.aload_n 0, 1) := by decide +kernel
theorem dX1_stock_9 : decode cX1_stock 9 = .ok (.iload_n 2, 1) := by decide +kernel
theorem dX1_stock_10 : decode cX1_stock 10 = .ok (.invokevirtual 145, 3) := by decide +kernel
theorem dX1_stock_13 : decode cX1_stock 13 = .ok (.ifCond .eq 13, 3) := by decide +kernel
theorem dX1_stock_16 : decode cX1_stock 16 = .ok (.iload_n 3, 1) := by decide +kernel
theorem dX1_stock_17 : decode cX1_stock 17 = .ok (.ifCond .lt 9, 3) := by decide +kernel
theorem dX1_stock_20 : decode cX1_stock 20 = .ok (.iload_n 3, 1) := by decide +kernel
theorem dX1_stock_21 : decode cX1_stock 21 = .ok (.bipush 99, 2) := by decide +kernel
theorem dX1_stock_23 : decode cX1_stock 23 = .ok (.if_icmp .le 5, 3) := by decide +kernel
theorem dX1_stock_26 : decode cX1_stock 26 = .ok (.iconst 0, 1) := by decide +kernel
theorem dX1_stock_27 : decode cX1_stock 27 = .ok (.ireturn, 1) := by decide +kernel
theorem dX1_stock_28 : decode cX1_stock 28 = .ok (.aload_n 0, 1) := by decide +kernel
theorem dX1_stock_29 : decode cX1_stock 29 = .ok (.getfield 100, 3) := by decide +kernel
theorem dX1_stock_32 : decode cX1_stock 32 = .ok (.bipush 40, 2) := by decide +kernel
theorem dX1_stock_34 : decode cX1_stock 34 = .ok (.iload_n 1, 1) := by decide +kernel
theorem dX1_stock_35 : decode cX1_stock 35 = .ok (.imul, 1) := by decide +kernel
theorem dX1_stock_36 : decode cX1_stock 36 = .ok (.iload_n 2, 1) := by decide +kernel
theorem dX1_stock_37 : decode cX1_stock 37 = .ok (.iadd, 1) := by decide +kernel
theorem dX1_stock_38 : decode cX1_stock 38 = .ok (.iload_n 3, 1) := by decide +kernel
theorem dX1_stock_39 : decode cX1_stock 39 = .ok (.iastore, 1) := by decide +kernel
theorem dX1_stock_40 : decode cX1_stock 40 = .ok (.iconst 1, 1) := by decide +kernel
theorem dX1_stock_41 : decode cX1_stock 41 = .ok (.ireturn, 1) := by decide +kernel
theorem dX1_shown_0 : decode cX1_shown 0 = .ok (.aload_n 0, 1) := by decide +kernel
theorem dX1_shown_1 : decode cX1_shown 1 = .ok (.iload_n 1, 1) := by decide +kernel
theorem dX1_shown_2 : decode cX1_shown 2 = .ok (.iload_n 2, 1) := by decide +kernel
theorem dX1_shown_3 : decode cX1_shown 3 = .ok (.iload_n 3, 1) := by decide +kernel
theorem dX1_shown_4 : decode cX1_shown 4 = .ok (.invokevirtual 291, 3) := by decide +kernel
theorem dX1_shown_7 : decode cX1_shown 7 = .ok (.ifCond .ne 6, 3) := by decide +kernel
theorem dX1_shown_10 : decode cX1_shown 10 = .ok (.bipush (-2), 2) := by decide +kernel
theorem dX1_shown_12 : decode cX1_shown 12 = .ok (.ireturn, 1) := by decide +kernel
theorem dX1_shown_13 : decode cX1_shown 13 = .ok (.bipush 64, 2) := by decide +kernel
theorem dX1_shown_15 : decode cX1_shown 15 = .ok (.iload_n 1, 1) := by decide +kernel
theorem dX1_shown_16 : decode cX1_shown 16 = .ok (.imul, 1) := by decide +kernel
theorem dX1_shown_17 : decode cX1_shown 17 = .ok (.bipush 8, 2) := by decide +kernel
theorem dX1_shown_19 : decode cX1_shown 19 = .ok (.iload_n 2, 1) := by decide +kernel
theorem dX1_shown_20 : decode cX1_shown 20 = .ok (.imul, 1) := by decide +kernel
theorem dX1_shown_21 : decode cX1_shown 21 = .ok (.iadd, 1) := by decide +kernel
theorem dX1_shown_22 : decode cX1_shown 22 = .ok (.iload_n 3, 1) := by decide +kernel
theorem dX1_shown_23 : decode cX1_shown 23 = .ok (.iadd, 1) := by decide +kernel
theorem dX1_shown_24 : decode cX1_shown 24 = .ok (.istore 4, 2) := by decide +kernel
theorem dX1_shown_26 : decode cX1_shown 26 = .ok (.aload_n 0, 1) := by decide +kernel
theorem dX1_shown_27 : decode cX1_shown 27 = .ok (.getfield 94, 3) := by decide +kernel
theorem dX1_shown_30 : decode cX1_shown 30 = .ok (.iload 4, 2) := by decide +kernel
theorem dX1_shown_32 : decode cX1_shown 32 = .ok (.iaload, 1) := by decide +kernel
theorem dX1_shown_33 : decode cX1_shown 33 = .ok (.ifCond .le 13, 3) := by decide +kernel
theorem dX1_shown_36 : decode cX1_shown 36 = .ok (.aload_n 0, 1) := by decide +kernel
theorem dX1_shown_37 : decode cX1_shown 37 = .ok (.getfield 94, 3) := by decide +kernel
theorem dX1_shown_40 : decode cX1_shown 40 = .ok (.iload 4, 2) := by decide +kernel
theorem dX1_shown_42 : decode cX1_shown 42 = .ok (.iaload, 1) := by decide +kernel
theorem dX1_shown_43 : decode cX1_shown 43 = .ok (.goto 10, 3) := by decide +kernel
theorem dX1_shown_46 : decode cX1_shown 46 = .ok (.aload_n 0, 1) := by decide +kernel
theorem dX1_shown_47 : decode cX1_shown 47 = .ok (.getfield 97, 3) := by decide +kernel
theorem dX1_shown_50 : decode cX1_shown 50 = .ok (.iload 4, 2) := by decide +kernel
theorem dX1_shown_52 : decode cX1_shown 52 = .ok (.iaload, 1) := by decide +kernel
theorem dX1_shown_53 : decode cX1_shown 53 = .ok (.istore 5, 2) := by decide +kernel
theorem dX1_shown_55 : decode cX1_shown 55 = .ok (.aload_n 0, 1) := by decide +kernel
theorem dX1_shown_56 : decode cX1_shown 56 = .ok (.getfield 94, 3) := by decide +kernel
theorem dX1_shown_59 : decode cX1_shown 59 = .ok (.iload 4, 2) := by decide +kernel
theorem dX1_shown_61 : decode cX1_shown 61 = .ok (.iaload, 1) := by decide +kernel
theorem dX1_shown_62 : decode cX1_shown 62 = .ok (.bipush (-2), 2) := by decide +kernel
theorem dX1_shown_64 : decode cX1_shown 64 = .ok (.if_icmp .ne 8, 3) := by decide +kernel
theorem dX1_shown_67 : decode cX1_shown 67 = .ok (.bipush (-2), 2) := by decide +kernel
theorem dX1_shown_69 : decode cX1_shown 69 = .ok (.goto 26, 3) := by decide +kernel
theorem dX1_shown_72 : decode cX1_shown 72 = .ok (.iload 5, 2) := by decide +kernel
theorem dX1_shown_74 : decode cX1_shown 74 = .ok (.ifCond .ne 7, 3) := by decide +kernel
theorem dX1_shown_77 : decode cX1_shown 77 = .ok (.iconst (-1), 1) := by decide +kernel
theorem dX1_shown_78 : decode cX1_shown 78 = .ok (.goto 17, 3) := by decide +kernel
theorem dX1_shown_81 : decode cX1_shown 81 = .ok (.bipush 8, 2) := by decide +kernel
theorem dX1_shown_83 : decode cX1_shown 83 = .ok (.iload 5, 2) := by decide +kernel
theorem dX1_shown_85 : decode cX1_shown 85 = .ok (.invokestatic 156, 3) := by decide +kernel
theorem dX1_shown_88 : decode cX1_shown 88 = .ok (.imul, 1) := by decide +kernel
theorem dX1_shown_89 : decode cX1_shown 89 = .ok (.iload 5, 2) := by decide +kernel
theorem dX1_shown_91 : decode cX1_shown 91 = .ok (.invokestatic 160, 3) := by decide +kernel
theorem dX1_shown_94 : decode cX1_shown 94 = .ok (.iadd, 1) := by decide +kernel
theorem dX1_shown_95 : decode cX1_shown 95 = .ok (.ireturn, 1) := by decide +kernel
theorem dX1_fill_0 : decode cX1_fill 0 = .ok (.aload_n 0, 1) := by decide +kernel
theorem dX1_fill_1 : decode cX1_fill 1 = .ok (.iload_n 1, 1) := by decide +kernel
theorem dX1_fill_2 : decode cX1_fill 2 = .ok (.invokevirtual 288, 3) := by decide +kernel
theorem dX1_fill_5 : decode cX1_fill 5 = .ok (.ifCond .ne 5, 3) := by decide +kernel
theorem dX1_fill_8 : decode cX1_fill 8 = .ok (.iconst (-1), 1) := by decide +kernel
theorem dX1_fill_9 : decode cX1_fill 9 = .ok (.ireturn, 1) := by decide +kernel
theorem dX1_fill_10 : decode cX1_fill 10 = .ok (.aload_n 0, 1) := by decide +kernel
theorem dX1_fill_11 : decode cX1_fill 11 = .ok (.iload_n 1, 1) := by decide +kernel
theorem dX1_fill_12 : decode cX1_fill 12 = .ok (.invokevirtual 351, 3) := by decide +kernel
theorem dX1_fill_15 : decode cX1_fill 15 = .ok (.ifCond .ne 5, 3) := by decide +kernel
theorem dX1_fill_18 : decode cX1_fill 18 = .ok (.iconst 0, 1) := by decide +kernel
theorem dX1_fill_19 : decode cX1_fill 19 = .ok (.ireturn, 1) := by decide +kernel
theorem dX1_fill_20 : decode cX1_fill 20 = .ok (.aload_n 0, 1) := by decide +kernel
theorem dX1_fill_21 : decode cX1_fill 21 = .ok (.iconst 1, 1) := by decide +kernel
theorem dX1_fill_22 : decode cX1_fill 22 = .ok (.iconst 0, 1) := by decide +kernel
theorem dX1_fill_23 : decode cX1_fill 23 = .ok (.invokevirtual 354, 3) := by decide +kernel
theorem dX1_fill_26 : decode cX1_fill 26 = .ok (.aload_n 0, 1) := by decide +kernel
theorem dX1_fill_27 : decode cX1_fill 27 = .ok (.getfield 319, 3) := by decide +kernel
theorem dX1_fill_30 : decode cX1_fill 30 = .ok (.ifCond .le 7, 3) := by decide +kernel
theorem dX1_fill_33 : decode cX1_fill 33 = .ok (.iconst 1, 1) := by decide +kernel
theorem dX1_fill_34 : decode cX1_fill 34 = .ok (.goto 15, 3) := by decide +kernel
theorem dX1_fill_37 : decode cX1_fill 37 = .ok (.aload_n 0, 1) := by decide +kernel
theorem dX1_fill_38 : decode cX1_fill 38 = .ok (.getfield 325, 3) := by decide +kernel
theorem dX1_fill_41 : decode cX1_fill 41 = .ok (.ifCond .eq 7, 3) := by decide +kernel
theorem dX1_fill_44 : decode cX1_fill 44 = .ok (.iconst 2, 1) := by decide +kernel
theorem dX1_fill_45 : decode cX1_fill 45 = .ok (.goto 4, 3) := by decide +kernel
theorem dX1_fill_48 : decode cX1_fill 48 = .ok (.iconst 0, 1) := by decide +kernel
theorem dX1_fill_49 : decode cX1_fill 49 = .ok (.ireturn, 1) := by decide +kernel
theorem dX1_starts_0 : decode cX1_starts 0 = .ok (.aload_n 0, 1) := by decide +kernel
theorem dX1_starts_1 : decode cX1_starts 1 = .ok (.iload_n 1, 1) := by decide +kernel
theorem dX1_starts_2 : decode cX1_starts 2 = .ok (.putfield 294, 3) := by decide +kernel
theorem dX1_starts_5 : decode cX1_starts 5 = .ok (.aload_n 0, 1) := by decide +kernel
theorem dX1_starts_6 : decode cX1_starts 6 = .ok (.iconst 0, 1) := by decide +kernel
theorem dX1_starts_7 : decode cX1_starts 7 = .ok (.putfield 307, 3) := by decide +kernel
theorem dX1_starts_10 : decode cX1_starts 10 = .ok (.iconst 0, 1) := by decide +kernel
theorem dX1_starts_11 : decode cX1_starts 11 = .ok (.istore_n 2, 1) := by decide +kernel
theorem dX1_starts_12 : decode cX1_starts 12 = .ok (.iload_n 2, 1) := by decide +kernel
theorem dX1_starts_13 : decode cX1_starts 13 = .ok (.aload_n 0, 1) := by decide +kernel
theorem dX1_starts_14 : decode cX1_starts 14 = .ok (.getfield 128, 3) := by decide +kernel
theorem dX1_starts_17 : decode cX1_starts 17 = .ok (.if_icmp .ge 26, 3) := by decide +kernel
theorem dX1_starts_20 : decode cX1_starts 20 = .ok (.aload_n 0, 1) := by decide +kernel
theorem dX1_starts_21 : decode cX1_starts 21 = .ok (.getfield 106, 3) := by decide +kernel
theorem dX1_starts_24 : decode cX1_starts 24 = .ok (.iload_n 2, 1) := by decide +kernel
theorem dX1_starts_25 : decode cX1_starts 25 = .ok (.aload_n 0, 1) := by decide +kernel
theorem dX1_starts_26 : decode cX1_starts 26 = .ok (.getfield 100, 3) := by decide +kernel
theorem dX1_starts_29 : decode cX1_starts 29 = .ok (.bipush 40, 2) := by decide +kernel
theorem dX1_starts_31 : decode cX1_starts 31 = .ok (.iload_n 1, 1) := by decide +kernel
theorem dX1_starts_32 : decode cX1_starts 32 = .ok (.imul, 1) := by decide +kernel
theorem dX1_starts_33 : decode cX1_starts 33 = .ok (.iload_n 2, 1) := by decide +kernel
theorem dX1_starts_34 : decode cX1_starts 34 = .ok (.iadd, 1) := by decide +kernel
theorem dX1_starts_35 : decode cX1_starts 35 = .ok (.iaload, 1) := by decide +kernel
theorem dX1_starts_36 : decode cX1_starts 36 = .ok (.iastore, 1) := by decide +kernel
theorem dX1_starts_37 : decode cX1_starts 37 = .ok (.iinc 2 1, 3) := by decide +kernel
theorem dX1_starts_40 : decode cX1_starts 40 = .ok (.goto (-28), 3) := by decide +kernel
theorem dX1_starts_43 : decode cX1_starts 43 = .ok (.iconst 1, 1) := by decide +kernel
theorem dX1_starts_44 : decode cX1_starts 44 = .ok (.istore_n 2, 1) := by decide +kernel
theorem dX1_starts_45 : decode cX1_starts 45 = .ok (.iconst 0, 1) := by decide +kernel
theorem dX1_starts_46 : decode cX1_starts 46 = .ok (.istore_n 3, 1) := by decide +kernel
theorem dX1_starts_47 : decode cX1_starts 47 = .ok (.iload_n 3, 1) := by decide +kernel
theorem dX1_starts_48 : decode cX1_starts 48 = .ok (.aload_n 0, 1) := by decide +kernel
theorem dX1_starts_49 : decode cX1_starts 49 = .ok (.getfield 88, 3) := by decide +kernel
theorem dX1_starts_52 : decode cX1_starts 52 = .ok (.iload_n 1, 1) := by decide +kernel
theorem dX1_starts_53 : decode cX1_starts 53 = .ok (.iaload, 1) := by decide +kernel
theorem dX1_starts_54 : decode cX1_starts 54 = .ok (.if_icmp .ge 99, 3) := by decide +kernel
theorem dX1_starts_57 : decode cX1_starts 57 = .ok (.iconst 0, 1) := by decide +kernel
theorem dX1_starts_58 : decode cX1_starts 58 = .ok (.istore 4, 2) := by decide +kernel
theorem dX1_starts_60 : decode cX1_starts 60 = .ok (.iload 4, 2) := by decide +kernel
theorem dX1_starts_62 : decode cX1_starts 62 = .ok (.aload_n 0, 1) := by decide +kernel
theorem dX1_starts_63 : decode cX1_starts 63 = .ok (.getfield 91, 3) := by decide +kernel
theorem dX1_starts_66 : decode cX1_starts 66 = .ok (.iload_n 1, 1) := by decide +kernel
theorem dX1_starts_67 : decode cX1_starts 67 = .ok (.iaload, 1) := by decide +kernel
theorem dX1_starts_68 : decode cX1_starts 68 = .ok (.if_icmp .ge 79, 3) := by decide +kernel
theorem dX1_starts_71 : decode cX1_starts 71 = .ok (.bipush 8, 2) := by decide +kernel
theorem dX1_starts_73 : decode cX1_starts 73 = .ok (.iload_n 3, 1) := by decide +kernel
theorem dX1_starts_74 : decode cX1_starts 74 = .ok (.imul, 1) := by decide +kernel
theorem dX1_starts_75 : decode cX1_starts 75 = .ok (.iload 4, 2) := by decide +kernel
theorem dX1_starts_77 : decode cX1_starts 77 = .ok (.iadd, 1) := by decide +kernel
theorem dX1_starts_78 : decode cX1_starts 78 = .ok (.istore 5, 2) := by decide +kernel
theorem dX1_starts_80 : decode cX1_starts 80 = .ok (.aload_n 0, 1) := by decide +kernel
theorem dX1_starts_81 : decode cX1_starts 81 = .ok (.getfield 103, 3) := by decide +kernel
theorem dX1_starts_84 : decode cX1_starts 84 = .ok (.iload 5, 2) := by decide +kernel
theorem dX1_starts_86 : decode cX1_starts 86 = .ok (.iconst 0, 1) := by decide +kernel
theorem dX1_starts_87 : decode cX1_starts 87 = .ok (.iastore, 1) := by decide +kernel
theorem dX1_starts_88 : decode cX1_starts 88 = .ok (.aload_n 0, 1) := by decide +kernel
theorem dX1_starts_89 : decode cX1_starts 89 = .ok (.getfield 97, 3) := by decide +kernel
theorem dX1_starts_92 : decode cX1_starts 92 = .ok (.bipush 64, 2) := by decide +kernel
theorem dX1_starts_94 : decode cX1_starts 94 = .ok (.iload_n 1, 1) := by decide +kernel
theorem dX1_starts_95 : decode cX1_starts 95 = .ok (.imul, 1) := by decide +kernel
theorem dX1_starts_96 : decode cX1_starts 96 = .ok (.iload 5, 2) := by decide +kernel
theorem dX1_starts_98 : decode cX1_starts 98 = .ok (.iadd, 1) := by decide +kernel
theorem dX1_starts_99 : decode cX1_starts 99 = .ok (.iconst 0, 1) := by decide +kernel
theorem dX1_starts_100 : decode cX1_starts 100 = .ok (.iastore, 1) := by decide +kernel
theorem dX1_starts_101 : decode cX1_starts 101 = .ok (.aload_n 0, 1) := by decide +kernel
theorem dX1_starts_102 : decode cX1_starts 102 = .ok (.getfield 94, 3) := by decide +kernel
theorem dX1_starts_105 : decode cX1_starts 105 = .ok (.bipush 64, 2) := by decide +kernel
theorem dX1_starts_107 : decode cX1_starts 107 = .ok (.iload_n 1, 1) := by decide +kernel
theorem dX1_starts_108 : decode cX1_starts 108 = .ok (.imul, 1) := by decide +kernel
theorem dX1_starts_109 : decode cX1_starts 109 = .ok (.iload 5, 2) := by decide +kernel
theorem dX1_starts_111 : decode cX1_starts 111 = .ok (.iadd, 1) := by decide +kernel
theorem dX1_starts_112 : decode cX1_starts 112 = .ok (.iaload, 1) := by decide +kernel
theorem dX1_starts_113 : decode cX1_starts 113 = .ok (.istore 6, 2) := by decide +kernel
theorem dX1_starts_115 : decode cX1_starts 115 = .ok (.iload 6, 2) := by decide +kernel
theorem dX1_starts_117 : decode cX1_starts 117 = .ok (.ifCond .ne 24, 3) := by decide +kernel
theorem dX1_starts_120 : decode cX1_starts 120 = .ok (.aload_n 0, 1) := by decide +kernel
theorem dX1_starts_121 : decode cX1_starts 121 = .ok (.getfield 109, 3) := by decide +kernel
theorem dX1_starts_124 : decode cX1_starts 124 = .ok (.aload_n 0, 1) := by decide +kernel
theorem dX1_starts_125 : decode cX1_starts 125 = .ok (.getfield 307, 3) := by decide +kernel
theorem dX1_starts_128 : decode cX1_starts 128 = .ok (.iload 5, 2) := by decide +kernel
theorem dX1_starts_130 : decode cX1_starts 130 = .ok (.iastore, 1) := by decide +kernel
theorem dX1_starts_131 : decode cX1_starts 131 = .ok (.aload_n 0, 1) := by decide +kernel
theorem dX1_starts_132 : decode cX1_starts 132 = .ok (.dup, 1) := by decide +kernel
theorem dX1_starts_133 : decode cX1_starts 133 = .ok (.getfield 307, 3) := by decide +kernel
theorem dX1_starts_136 : decode cX1_starts 136 = .ok (.iconst 1, 1) := by decide +kernel
theorem dX1_starts_137 : decode cX1_starts 137 = .ok (.iadd, 1) := by decide +kernel
theorem dX1_starts_138 : decode cX1_starts 138 = .ok (.putfield 307, 3) := by decide +kernel
theorem dX1_starts_141 : decode cX1_starts 141 = .ok (.iinc 4 1, 3) := by decide +kernel
theorem dX1_starts_144 : decode cX1_starts 144 = .ok (.goto (-84), 3) := by decide +kernel
theorem dX1_starts_147 : decode cX1_starts 147 = .ok (.iinc 3 1, 3) := by decide +kernel
theorem dX1_starts_150 : decode cX1_starts 150 = .ok (.goto (-103), 3) := by decide +kernel
theorem dX1_starts_153 : decode cX1_starts 153 = .ok (.iconst 0, 1) := by decide +kernel
theorem dX1_starts_154 : decode cX1_starts 154 = .ok (.istore_n 3, 1) := by decide +kernel
theorem dX1_starts_155 : decode cX1_starts 155 = .ok (.iload_n 3, 1) := by decide +kernel
theorem dX1_starts_156 : decode cX1_starts 156 = .ok (.bipush 64, 2) := by decide +kernel
theorem dX1_starts_158 : decode cX1_starts 158 = .ok (.if_icmp .ge 78, 3) := by decide +kernel
theorem dX1_starts_161 : decode cX1_starts 161 = .ok (.iload_n 3, 1) := by decide +kernel
theorem dX1_starts_162 : decode cX1_starts 162 = .ok (.bipush 8, 2) := by decide +kernel
theorem dX1_starts_164 : decode cX1_starts 164 = .ok (.idiv, 1) := by decide +kernel
theorem dX1_starts_165 : decode cX1_starts 165 = .ok (.aload_n 0, 1) := by decide +kernel
theorem dX1_starts_166 : decode cX1_starts 166 = .ok (.getfield 88, 3) := by decide +kernel
theorem dX1_starts_169 : decode cX1_starts 169 = .ok (.iload_n 1, 1) := by decide +kernel
theorem dX1_starts_170 : decode cX1_starts 170 = .ok (.iaload, 1) := by decide +kernel
theorem dX1_starts_171 : decode cX1_starts 171 = .ok (.if_icmp .ge 59, 3) := by decide +kernel
theorem dX1_starts_174 : decode cX1_starts 174 = .ok (.iload_n 3, 1) := by decide +kernel
theorem dX1_starts_175 : decode cX1_starts 175 = .ok (.bipush 8, 2) := by decide +kernel
theorem dX1_starts_177 : decode cX1_starts 177 = .ok (.irem, 1) := by decide +kernel
theorem dX1_starts_178 : decode cX1_starts 178 = .ok (.aload_n 0, 1) := by decide +kernel
theorem dX1_starts_179 : decode cX1_starts 179 = .ok (.getfield 91, 3) := by decide +kernel
theorem dX1_starts_182 : decode cX1_starts 182 = .ok (.iload_n 1, 1) := by decide +kernel
theorem dX1_starts_183 : decode cX1_starts 183 = .ok (.iaload, 1) := by decide +kernel
theorem dX1_starts_184 : decode cX1_starts 184 = .ok (.if_icmp .ge 46, 3) := by decide +kernel
theorem dX1_starts_187 : decode cX1_starts 187 = .ok (.aload_n 0, 1) := by decide +kernel
theorem dX1_starts_188 : decode cX1_starts 188 = .ok (.getfield 94, 3) := by decide +kernel
theorem dX1_starts_191 : decode cX1_starts 191 = .ok (.bipush 64, 2) := by decide +kernel
theorem dX1_starts_193 : decode cX1_starts 193 = .ok (.iload_n 1, 1) := by decide +kernel
theorem dX1_starts_194 : decode cX1_starts 194 = .ok (.imul, 1) := by decide +kernel
theorem dX1_starts_195 : decode cX1_starts 195 = .ok (.iload_n 3, 1) := by decide +kernel
theorem dX1_starts_196 : decode cX1_starts 196 = .ok (.iadd, 1) := by decide +kernel
theorem dX1_starts_197 : decode cX1_starts 197 = .ok (.iaload, 1) := by decide +kernel
theorem dX1_starts_198 : decode cX1_starts 198 = .ok (.ifCond .le 32, 3) := by decide +kernel
theorem dX1_starts_201 : decode cX1_starts 201 = .ok (.iload_n 2, 1) := by decide +kernel
theorem dX1_starts_202 : decode cX1_starts 202 = .ok (.ifCond .eq 26, 3) := by decide +kernel
theorem dX1_starts_205 : decode cX1_starts 205 = .ok (.aload_n 0, 1) := by decide +kernel
theorem dX1_starts_206 : decode cX1_starts 206 = .ok (.iload_n 3, 1) := by decide +kernel
theorem dX1_starts_207 : decode cX1_starts 207 = .ok (.aload_n 0, 1) := by decide +kernel
theorem dX1_starts_208 : decode cX1_starts 208 = .ok (.getfield 94, 3) := by decide +kernel
theorem dX1_starts_211 : decode cX1_starts 211 = .ok (.bipush 64, 2) := by decide +kernel
theorem dX1_starts_213 : decode cX1_starts 213 = .ok (.iload_n 1, 1) := by decide +kernel
theorem dX1_starts_214 : decode cX1_starts 214 = .ok (.imul, 1) := by decide +kernel
theorem dX1_starts_215 : decode cX1_starts 215 = .ok (.iload_n 3, 1) := by decide +kernel
theorem dX1_starts_216 : decode cX1_starts 216 = .ok (.iadd, 1) := by decide +kernel
theorem dX1_starts_217 : decode cX1_starts 217 = .ok (.iaload, 1) := by decide +kernel
theorem dX1_starts_218 : decode cX1_starts 218 = .ok (.invokevirtual 300, 3) := by decide +kernel
theorem dX1_starts_221 : decode cX1_starts 221 = .ok (.ifCond .eq 7, 3) := by decide +kernel
theorem dX1_starts_224 : decode cX1_starts 224 = .ok (.iconst 1, 1) := by decide +kernel
theorem dX1_starts_225 : decode cX1_starts 225 = .ok (.goto 4, 3) := by decide +kernel
theorem dX1_starts_228 : decode cX1_starts 228 = .ok (.iconst 0, 1) := by decide +kernel
theorem dX1_starts_229 : decode cX1_starts 229 = .ok (.istore_n 2, 1) := by decide +kernel
theorem dX1_starts_230 : decode cX1_starts 230 = .ok (.iinc 3 1, 3) := by decide +kernel
theorem dX1_starts_233 : decode cX1_starts 233 = .ok (.goto (-78), 3) := by decide +kernel
theorem dX1_starts_236 : decode cX1_starts 236 = .ok (.iload_n 2, 1) := by decide +kernel
theorem dX1_starts_237 : decode cX1_starts 237 = .ok (.ireturn, 1) := by decide +kernel
theorem dX1_mayLie_0 : decode cX1_mayLie 0 = .ok (.iload_n 1, 1) := by decide +kernel
theorem dX1_mayLie_1 : decode cX1_mayLie 1 = .ok (.bipush 8, 2) := by decide +kernel
theorem dX1_mayLie_3 : decode cX1_mayLie 3 = .ok (.idiv, 1) := by decide +kernel
theorem dX1_mayLie_4 : decode cX1_mayLie 4 = .ok (.istore_n 3, 1) := by decide +kernel
theorem dX1_mayLie_5 : decode cX1_mayLie 5 = .ok (.iload_n 1, 1) := by decide +kernel
theorem dX1_mayLie_6 : decode cX1_mayLie 6 = .ok (.bipush 8, 2) := by decide +kernel
theorem dX1_mayLie_8 : decode cX1_mayLie 8 = .ok (.irem, 1) := by decide +kernel
theorem dX1_mayLie_9 : decode cX1_mayLie 9 = .ok (.istore 4, 2) := by decide +kernel
theorem dX1_mayLie_11 : decode cX1_mayLie 11 = .ok (.aload_n 0, 1) := by decide +kernel
theorem dX1_mayLie_12 : decode cX1_mayLie 12 = .ok (.iload_n 2, 1) := by decide +kernel
theorem dX1_mayLie_13 : decode cX1_mayLie 13 = .ok (.aload_n 0, 1) := by decide +kernel
theorem dX1_mayLie_14 : decode cX1_mayLie 14 = .ok (.iload_n 3, 1) := by decide +kernel
theorem dX1_mayLie_15 : decode cX1_mayLie 15 = .ok (.iconst 1, 1) := by decide +kernel
theorem dX1_mayLie_16 : decode cX1_mayLie 16 = .ok (.isub, 1) := by decide +kernel
theorem dX1_mayLie_17 : decode cX1_mayLie 17 = .ok (.iload 4, 2) := by decide +kernel
theorem dX1_mayLie_19 : decode cX1_mayLie 19 = .ok (.invokevirtual 297, 3) := by decide +kernel
theorem dX1_mayLie_22 : decode cX1_mayLie 22 = .ok (.iconst 0, 1) := by decide +kernel
theorem dX1_mayLie_23 : decode cX1_mayLie 23 = .ok (.invokevirtual 263, 3) := by decide +kernel
theorem dX1_mayLie_26 : decode cX1_mayLie 26 = .ok (.ifCond .eq 61, 3) := by decide +kernel
theorem dX1_mayLie_29 : decode cX1_mayLie 29 = .ok (.aload_n 0, 1) := by decide +kernel
theorem dX1_mayLie_30 : decode cX1_mayLie 30 = .ok (.iload_n 2, 1) := by decide +kernel
theorem dX1_mayLie_31 : decode cX1_mayLie 31 = .ok (.aload_n 0, 1) := by decide +kernel
theorem dX1_mayLie_32 : decode cX1_mayLie 32 = .ok (.iload_n 3, 1) := by decide +kernel
theorem dX1_mayLie_33 : decode cX1_mayLie 33 = .ok (.iload 4, 2) := by decide +kernel
theorem dX1_mayLie_35 : decode cX1_mayLie 35 = .ok (.iconst 1, 1) := by decide +kernel
theorem dX1_mayLie_36 : decode cX1_mayLie 36 = .ok (.iadd, 1) := by decide +kernel
theorem dX1_mayLie_37 : decode cX1_mayLie 37 = .ok (.invokevirtual 297, 3) := by decide +kernel
theorem dX1_mayLie_40 : decode cX1_mayLie 40 = .ok (.iconst 1, 1) := by decide +kernel
theorem dX1_mayLie_41 : decode cX1_mayLie 41 = .ok (.invokevirtual 263, 3) := by decide +kernel
theorem dX1_mayLie_44 : decode cX1_mayLie 44 = .ok (.ifCond .eq 43, 3) := by decide +kernel
theorem dX1_mayLie_47 : decode cX1_mayLie 47 = .ok (.aload_n 0, 1) := by decide +kernel
theorem dX1_mayLie_48 : decode cX1_mayLie 48 = .ok (.iload_n 2, 1) := by decide +kernel
theorem dX1_mayLie_49 : decode cX1_mayLie 49 = .ok (.aload_n 0, 1) := by decide +kernel
theorem dX1_mayLie_50 : decode cX1_mayLie 50 = .ok (.iload_n 3, 1) := by decide +kernel
theorem dX1_mayLie_51 : decode cX1_mayLie 51 = .ok (.iconst 1, 1) := by decide +kernel
theorem dX1_mayLie_52 : decode cX1_mayLie 52 = .ok (.iadd, 1) := by decide +kernel
theorem dX1_mayLie_53 : decode cX1_mayLie 53 = .ok (.iload 4, 2) := by decide +kernel
theorem dX1_mayLie_55 : decode cX1_mayLie 55 = .ok (.invokevirtual 297, 3) := by decide +kernel
theorem dX1_mayLie_58 : decode cX1_mayLie 58 = .ok (.iconst 2, 1) := by decide +kernel
theorem dX1_mayLie_59 : decode cX1_mayLie 59 = .ok (.invokevirtual 263, 3) := by decide +kernel
theorem dX1_mayLie_62 : decode cX1_mayLie 62 = .ok (.ifCond .eq 25, 3) := by decide +kernel
theorem dX1_mayLie_65 : decode cX1_mayLie 65 = .ok (.aload_n 0, 1) := by decide +kernel
theorem dX1_mayLie_66 : decode cX1_mayLie 66 = .ok (.iload_n 2, 1) := by decide +kernel
theorem dX1_mayLie_67 : decode cX1_mayLie 67 = .ok (.aload_n 0, 1) := by decide +kernel
theorem dX1_mayLie_68 : decode cX1_mayLie 68 = .ok (.iload_n 3, 1) := by decide +kernel
theorem dX1_mayLie_69 : decode cX1_mayLie 69 = .ok (.iload 4, 2) := by decide +kernel
theorem dX1_mayLie_71 : decode cX1_mayLie 71 = .ok (.iconst 1, 1) := by decide +kernel
theorem dX1_mayLie_72 : decode cX1_mayLie 72 = .ok (.isub, 1) := by decide +kernel
theorem dX1_mayLie_73 : decode cX1_mayLie 73 = .ok (.invokevirtual 297, 3) := by decide +kernel
theorem dX1_mayLie_76 : decode cX1_mayLie 76 = .ok (.iconst 3, 1) := by decide +kernel
theorem dX1_mayLie_77 : decode cX1_mayLie 77 = .ok (.invokevirtual 263, 3) := by decide +kernel
theorem dX1_mayLie_80 : decode cX1_mayLie 80 = .ok (.ifCond .eq 7, 3) := by decide +kernel
theorem dX1_mayLie_83 : decode cX1_mayLie 83 = .ok (.iconst 1, 1) := by decide +kernel
theorem dX1_mayLie_84 : decode cX1_mayLie 84 = .ok (.goto 4, 3) := by decide +kernel
theorem dX1_mayLie_87 : decode cX1_mayLie 87 = .ok (.iconst 0, 1) := by decide +kernel
theorem dX1_mayLie_88 : decode cX1_mayLie 88 = .ok (.ireturn, 1) := by decide +kernel
theorem dX1_lyingAt_0 : decode cX1_lyingAt 0 = .ok (.iload_n 1, 1) := by decide +kernel
theorem dX1_lyingAt_1 : decode cX1_lyingAt 1 = .ok (.ifCond .lt 33, 3) := by decide +kernel
theorem dX1_lyingAt_4 : decode cX1_lyingAt 4 = .ok (.iload_n 2, 1) := by decide +kernel
theorem dX1_lyingAt_5 : decode cX1_lyingAt 5 = .ok (.ifCond .lt 29, 3) := by decide +kernel
theorem dX1_lyingAt_8 : decode cX1_lyingAt 8 = .ok (.iload_n 1, 1) := by decide +kernel
theorem dX1_lyingAt_9 : decode cX1_lyingAt 9 = .ok (.aload_n 0, 1) := by decide +kernel
theorem dX1_lyingAt_10 : decode cX1_lyingAt 10 = .ok (.getfield 88, 3) := by decide +kernel
theorem dX1_lyingAt_13 : decode cX1_lyingAt 13 = .ok (.aload_n 0, 1) := by decide +kernel
theorem dX1_lyingAt_14 : decode cX1_lyingAt 14 = .ok (.getfield 294, 3) := by decide +kernel
theorem dX1_lyingAt_17 : decode cX1_lyingAt 17 = .ok (.iaload, 1) := by decide +kernel
theorem dX1_lyingAt_18 : decode cX1_lyingAt 18 = .ok (.if_icmp .ge 16, 3) := by decide +kernel
theorem dX1_lyingAt_21 : decode cX1_lyingAt 21 = .ok (.iload_n 2, 1) := by decide +kernel
theorem dX1_lyingAt_22 : decode cX1_lyingAt 22 = .ok (.aload_n 0, 1) := by decide +kernel
theorem dX1_lyingAt_23 : decode cX1_lyingAt 23 = .ok (.getfield 91, 3) := by decide +kernel
theorem dX1_lyingAt_26 : decode cX1_lyingAt 26 = .ok (.aload_n 0, 1) := by decide +kernel
theorem dX1_lyingAt_27 : decode cX1_lyingAt 27 = .ok (.getfield 294, 3) := by decide +kernel
theorem dX1_lyingAt_30 : decode cX1_lyingAt 30 = .ok (.iaload, 1) := by decide +kernel
theorem dX1_lyingAt_31 : decode cX1_lyingAt 31 = .ok (.if_icmp .lt 5, 3) := by decide +kernel
theorem dX1_lyingAt_34 : decode cX1_lyingAt 34 = .ok (.iconst 0, 1) := by decide +kernel
theorem dX1_lyingAt_35 : decode cX1_lyingAt 35 = .ok (.ireturn, 1) := by decide +kernel
theorem dX1_lyingAt_36 : decode cX1_lyingAt 36 = .ok (.aload_n 0, 1) := by decide +kernel
theorem dX1_lyingAt_37 : decode cX1_lyingAt 37 = .ok (.getfield 94, 3) := by decide +kernel
theorem dX1_lyingAt_40 : decode cX1_lyingAt 40 = .ok (.bipush 64, 2) := by decide +kernel
theorem dX1_lyingAt_42 : decode cX1_lyingAt 42 = .ok (.aload_n 0, 1) := by decide +kernel
theorem dX1_lyingAt_43 : decode cX1_lyingAt 43 = .ok (.getfield 294, 3) := by decide +kernel
theorem dX1_lyingAt_46 : decode cX1_lyingAt 46 = .ok (.imul, 1) := by decide +kernel
theorem dX1_lyingAt_47 : decode cX1_lyingAt 47 = .ok (.bipush 8, 2) := by decide +kernel
theorem dX1_lyingAt_49 : decode cX1_lyingAt 49 = .ok (.iload_n 1, 1) := by decide +kernel
theorem dX1_lyingAt_50 : decode cX1_lyingAt 50 = .ok (.imul, 1) := by decide +kernel
theorem dX1_lyingAt_51 : decode cX1_lyingAt 51 = .ok (.iadd, 1) := by decide +kernel
theorem dX1_lyingAt_52 : decode cX1_lyingAt 52 = .ok (.iload_n 2, 1) := by decide +kernel
theorem dX1_lyingAt_53 : decode cX1_lyingAt 53 = .ok (.iadd, 1) := by decide +kernel
theorem dX1_lyingAt_54 : decode cX1_lyingAt 54 = .ok (.iaload, 1) := by decide +kernel
theorem dX1_lyingAt_55 : decode cX1_lyingAt 55 = .ok (.istore_n 3, 1) := by decide +kernel
theorem dX1_lyingAt_56 : decode cX1_lyingAt 56 = .ok (.iload_n 3, 1) := by decide +kernel
theorem dX1_lyingAt_57 : decode cX1_lyingAt 57 = .ok (.ifCond .le 7, 3) := by decide +kernel
theorem dX1_lyingAt_60 : decode cX1_lyingAt 60 = .ok (.iload_n 3, 1) := by decide +kernel
theorem dX1_lyingAt_61 : decode cX1_lyingAt 61 = .ok (.goto 24, 3) := by decide +kernel
theorem dX1_lyingAt_64 : decode cX1_lyingAt 64 = .ok (.iload_n 3, 1) := by decide +kernel
theorem dX1_lyingAt_65 : decode cX1_lyingAt 65 = .ok (.bipush (-2), 2) := by decide +kernel
theorem dX1_lyingAt_67 : decode cX1_lyingAt 67 = .ok (.if_icmp .ne 7, 3) := by decide +kernel
theorem dX1_lyingAt_70 : decode cX1_lyingAt 70 = .ok (.iconst 0, 1) := by decide +kernel
theorem dX1_lyingAt_71 : decode cX1_lyingAt 71 = .ok (.goto 14, 3) := by decide +kernel
theorem dX1_lyingAt_74 : decode cX1_lyingAt 74 = .ok (.aload_n 0, 1) := by decide +kernel
theorem dX1_lyingAt_75 : decode cX1_lyingAt 75 = .ok (.getfield 103, 3) := by decide +kernel
theorem dX1_lyingAt_78 : decode cX1_lyingAt 78 = .ok (.bipush 8, 2) := by decide +kernel
theorem dX1_lyingAt_80 : decode cX1_lyingAt 80 = .ok (.iload_n 1, 1) := by decide +kernel
theorem dX1_lyingAt_81 : decode cX1_lyingAt 81 = .ok (.imul, 1) := by decide +kernel
theorem dX1_lyingAt_82 : decode cX1_lyingAt 82 = .ok (.iload_n 2, 1) := by decide +kernel
theorem dX1_lyingAt_83 : decode cX1_lyingAt 83 = .ok (.iadd, 1) := by decide +kernel
theorem dX1_lyingAt_84 : decode cX1_lyingAt 84 = .ok (.iaload, 1) := by decide +kernel
theorem dX1_lyingAt_85 : decode cX1_lyingAt 85 = .ok (.ireturn, 1) := by decide +kernel
theorem dX1_search_0 : decode cX1_search 0 = .ok (.aload_n 0, 1) := by decide +kernel
theorem dX1_search_1 : decode cX1_search 1 = .ok (.iconst 0, 1) := by decide +kernel
theorem dX1_search_2 : decode cX1_search 2 = .ok (.putfield 316, 3) := by decide +kernel
theorem dX1_search_5 : decode cX1_search 5 = .ok (.aload_n 0, 1) := by decide +kernel
theorem dX1_search_6 : decode cX1_search 6 = .ok (.iconst 0, 1) := by decide +kernel
theorem dX1_search_7 : decode cX1_search 7 = .ok (.putfield 319, 3) := by decide +kernel
theorem dX1_search_10 : decode cX1_search 10 = .ok (.aload_n 0, 1) := by decide +kernel
theorem dX1_search_11 : decode cX1_search 11 = .ok (.iconst 0, 1) := by decide +kernel
theorem dX1_search_12 : decode cX1_search 12 = .ok (.putfield 313, 3) := by decide +kernel
theorem dX1_search_15 : decode cX1_search 15 = .ok (.aload_n 0, 1) := by decide +kernel
theorem dX1_search_16 : decode cX1_search 16 = .ok (.iconst (-1), 1) := by decide +kernel
theorem dX1_search_17 : decode cX1_search 17 = .ok (.putfield 322, 3) := by decide +kernel
theorem dX1_search_20 : decode cX1_search 20 = .ok (.aload_n 0, 1) := by decide +kernel
theorem dX1_search_21 : decode cX1_search 21 = .ok (.iconst 0, 1) := by decide +kernel
theorem dX1_search_22 : decode cX1_search 22 = .ok (.putfield 325, 3) := by decide +kernel
theorem dX1_search_25 : decode cX1_search 25 = .ok (.aload_n 0, 1) := by decide +kernel
theorem dX1_search_26 : decode cX1_search 26 = .ok (.iconst 0, 1) := by decide +kernel
theorem dX1_search_27 : decode cX1_search 27 = .ok (.putfield 329, 3) := by decide +kernel
theorem dX1_search_30 : decode cX1_search 30 = .ok (.iload_n 2, 1) := by decide +kernel
theorem dX1_search_31 : decode cX1_search 31 = .ok (.ifCond .eq 10, 3) := by decide +kernel
theorem dX1_search_34 : decode cX1_search 34 = .ok (.aload_n 0, 1) := by decide +kernel
theorem dX1_search_35 : decode cX1_search 35 = .ok (.invokevirtual 332, 3) := by decide +kernel
theorem dX1_search_38 : decode cX1_search 38 = .ok (.goto 4, 3) := by decide +kernel
theorem dX1_search_41 : decode cX1_search 41 = .ok (.iconst 0, 1) := by decide +kernel
theorem dX1_search_42 : decode cX1_search 42 = .ok (.istore_n 3, 1) := by decide +kernel
theorem dX1_search_43 : decode cX1_search 43 = .ok (.iconst 1, 1) := by decide +kernel
theorem dX1_search_44 : decode cX1_search 44 = .ok (.istore 4, 2) := by decide +kernel
theorem dX1_search_46 : decode cX1_search 46 = .ok (.aload_n 0, 1) := by decide +kernel
theorem dX1_search_47 : decode cX1_search 47 = .ok (.getfield 319, 3) := by decide +kernel
theorem dX1_search_50 : decode cX1_search 50 = .ok (.iload_n 1, 1) := by decide +kernel
theorem dX1_search_51 : decode cX1_search 51 = .ok (.if_icmp .ge 326, 3) := by decide +kernel
theorem dX1_search_54 : decode cX1_search 54 = .ok (.aload_n 0, 1) := by decide +kernel
theorem dX1_search_55 : decode cX1_search 55 = .ok (.getfield 325, 3) := by decide +kernel
theorem dX1_search_58 : decode cX1_search 58 = .ok (.ifCond .ne 319, 3) := by decide +kernel
theorem dX1_search_61 : decode cX1_search 61 = .ok (.iload 4, 2) := by decide +kernel
theorem dX1_search_63 : decode cX1_search 63 = .ok (.ifCond .ne 10, 3) := by decide +kernel
theorem dX1_search_66 : decode cX1_search 66 = .ok (.aload_n 0, 1) := by decide +kernel
theorem dX1_search_67 : decode cX1_search 67 = .ok (.getfield 329, 3) := by decide +kernel
theorem dX1_search_70 : decode cX1_search 70 = .ok (.ifCond .le 307, 3) := by decide +kernel
theorem dX1_search_73 : decode cX1_search 73 = .ok (.iload 4, 2) := by decide +kernel
theorem dX1_search_75 : decode cX1_search 75 = .ok (.ifCond .eq 73, 3) := by decide +kernel
theorem dX1_search_78 : decode cX1_search 78 = .ok (.aload_n 0, 1) := by decide +kernel
theorem dX1_search_79 : decode cX1_search 79 = .ok (.invokevirtual 335, 3) := by decide +kernel
theorem dX1_search_82 : decode cX1_search 82 = .ok (.istore 5, 2) := by decide +kernel
theorem dX1_search_84 : decode cX1_search 84 = .ok (.iload 5, 2) := by decide +kernel
theorem dX1_search_86 : decode cX1_search 86 = .ok (.ifCond .ge 31, 3) := by decide +kernel
theorem dX1_search_89 : decode cX1_search 89 = .ok (.aload_n 0, 1) := by decide +kernel
theorem dX1_search_90 : decode cX1_search 90 = .ok (.dup, 1) := by decide +kernel
theorem dX1_search_91 : decode cX1_search 91 = .ok (.getfield 319, 3) := by decide +kernel
theorem dX1_search_94 : decode cX1_search 94 = .ok (.iconst 1, 1) := by decide +kernel
theorem dX1_search_95 : decode cX1_search 95 = .ok (.iadd, 1) := by decide +kernel
theorem dX1_search_96 : decode cX1_search 96 = .ok (.putfield 319, 3) := by decide +kernel
theorem dX1_search_99 : decode cX1_search 99 = .ok (.aload_n 0, 1) := by decide +kernel
theorem dX1_search_100 : decode cX1_search 100 = .ok (.aload_n 0, 1) := by decide +kernel
theorem dX1_search_101 : decode cX1_search 101 = .ok (.getfield 313, 3) := by decide +kernel
theorem dX1_search_104 : decode cX1_search 104 = .ok (.putfield 322, 3) := by decide +kernel
theorem dX1_search_107 : decode cX1_search 107 = .ok (.aload_n 0, 1) := by decide +kernel
theorem dX1_search_108 : decode cX1_search 108 = .ok (.invokevirtual 338, 3) := by decide +kernel
theorem dX1_search_111 : decode cX1_search 111 = .ok (.iconst 0, 1) := by decide +kernel
theorem dX1_search_112 : decode cX1_search 112 = .ok (.istore 4, 2) := by decide +kernel
theorem dX1_search_114 : decode cX1_search 114 = .ok (.goto (-68), 3) := by decide +kernel
theorem dX1_search_117 : decode cX1_search 117 = .ok (.aload_n 0, 1) := by decide +kernel
theorem dX1_search_118 : decode cX1_search 118 = .ok (.getfield 112, 3) := by decide +kernel
theorem dX1_search_121 : decode cX1_search 121 = .ok (.aload_n 0, 1) := by decide +kernel
theorem dX1_search_122 : decode cX1_search 122 = .ok (.getfield 329, 3) := by decide +kernel
theorem dX1_search_125 : decode cX1_search 125 = .ok (.iload 5, 2) := by decide +kernel
theorem dX1_search_127 : decode cX1_search 127 = .ok (.iastore, 1) := by decide +kernel
theorem dX1_search_128 : decode cX1_search 128 = .ok (.aload_n 0, 1) := by decide +kernel
theorem dX1_search_129 : decode cX1_search 129 = .ok (.getfield 115, 3) := by decide +kernel
theorem dX1_search_132 : decode cX1_search 132 = .ok (.aload_n 0, 1) := by decide +kernel
theorem dX1_search_133 : decode cX1_search 133 = .ok (.getfield 329, 3) := by decide +kernel
theorem dX1_search_136 : decode cX1_search 136 = .ok (.iconst (-1), 1) := by decide +kernel
theorem dX1_search_137 : decode cX1_search 137 = .ok (.iastore, 1) := by decide +kernel
theorem dX1_search_138 : decode cX1_search 138 = .ok (.aload_n 0, 1) := by decide +kernel
theorem dX1_search_139 : decode cX1_search 139 = .ok (.dup, 1) := by decide +kernel
theorem dX1_search_140 : decode cX1_search 140 = .ok (.getfield 329, 3) := by decide +kernel
theorem dX1_search_143 : decode cX1_search 143 = .ok (.iconst 1, 1) := by decide +kernel
theorem dX1_search_144 : decode cX1_search 144 = .ok (.iadd, 1) := by decide +kernel
theorem dX1_search_145 : decode cX1_search 145 = .ok (.putfield 329, 3) := by decide +kernel
theorem dX1_search_148 : decode cX1_search 148 = .ok (.aload_n 0, 1) := by decide +kernel
theorem dX1_search_149 : decode cX1_search 149 = .ok (.getfield 329, 3) := by decide +kernel
theorem dX1_search_152 : decode cX1_search 152 = .ok (.iconst 1, 1) := by decide +kernel
theorem dX1_search_153 : decode cX1_search 153 = .ok (.isub, 1) := by decide +kernel
theorem dX1_search_154 : decode cX1_search 154 = .ok (.istore 5, 2) := by decide +kernel
theorem dX1_search_156 : decode cX1_search 156 = .ok (.aload_n 0, 1) := by decide +kernel
theorem dX1_search_157 : decode cX1_search 157 = .ok (.getfield 103, 3) := by decide +kernel
theorem dX1_search_160 : decode cX1_search 160 = .ok (.aload_n 0, 1) := by decide +kernel
theorem dX1_search_161 : decode cX1_search 161 = .ok (.getfield 112, 3) := by decide +kernel
theorem dX1_search_164 : decode cX1_search 164 = .ok (.iload 5, 2) := by decide +kernel
theorem dX1_search_166 : decode cX1_search 166 = .ok (.iaload, 1) := by decide +kernel
theorem dX1_search_167 : decode cX1_search 167 = .ok (.iaload, 1) := by decide +kernel
theorem dX1_search_168 : decode cX1_search 168 = .ok (.ifCond .eq 14, 3) := by decide +kernel
theorem dX1_search_171 : decode cX1_search 171 = .ok (.aload_n 0, 1) := by decide +kernel
theorem dX1_search_172 : decode cX1_search 172 = .ok (.aload_n 0, 1) := by decide +kernel
theorem dX1_search_173 : decode cX1_search 173 = .ok (.getfield 112, 3) := by decide +kernel
theorem dX1_search_176 : decode cX1_search 176 = .ok (.iload 5, 2) := by decide +kernel
theorem dX1_search_178 : decode cX1_search 178 = .ok (.iaload, 1) := by decide +kernel
theorem dX1_search_179 : decode cX1_search 179 = .ok (.invokevirtual 341, 3) := by decide +kernel
theorem dX1_search_182 : decode cX1_search 182 = .ok (.aload_n 0, 1) := by decide +kernel
theorem dX1_search_183 : decode cX1_search 183 = .ok (.aload_n 0, 1) := by decide +kernel
theorem dX1_search_184 : decode cX1_search 184 = .ok (.getfield 112, 3) := by decide +kernel
theorem dX1_search_187 : decode cX1_search 187 = .ok (.iload 5, 2) := by decide +kernel
theorem dX1_search_189 : decode cX1_search 189 = .ok (.iaload, 1) := by decide +kernel
theorem dX1_search_190 : decode cX1_search 190 = .ok (.aload_n 0, 1) := by decide +kernel
theorem dX1_search_191 : decode cX1_search 191 = .ok (.getfield 115, 3) := by decide +kernel
theorem dX1_search_194 : decode cX1_search 194 = .ok (.iload 5, 2) := by decide +kernel
theorem dX1_search_196 : decode cX1_search 196 = .ok (.iaload, 1) := by decide +kernel
theorem dX1_search_197 : decode cX1_search 197 = .ok (.iconst 1, 1) := by decide +kernel
theorem dX1_search_198 : decode cX1_search 198 = .ok (.iadd, 1) := by decide +kernel
theorem dX1_search_199 : decode cX1_search 199 = .ok (.invokevirtual 304, 3) := by decide +kernel
theorem dX1_search_202 : decode cX1_search 202 = .ok (.istore 6, 2) := by decide +kernel
theorem dX1_search_204 : decode cX1_search 204 = .ok (.iload 6, 2) := by decide +kernel
theorem dX1_search_206 : decode cX1_search 206 = .ok (.ifCond .lt 68, 3) := by decide +kernel
theorem dX1_search_209 : decode cX1_search 209 = .ok (.iload_n 2, 1) := by decide +kernel
theorem dX1_search_210 : decode cX1_search 210 = .ok (.ifCond .eq 64, 3) := by decide +kernel
theorem dX1_search_213 : decode cX1_search 213 = .ok (.aload_n 0, 1) := by decide +kernel
theorem dX1_search_214 : decode cX1_search 214 = .ok (.getfield 322, 3) := by decide +kernel
theorem dX1_search_217 : decode cX1_search 217 = .ok (.ifCond .lt 57, 3) := by decide +kernel
theorem dX1_search_220 : decode cX1_search 220 = .ok (.aload_n 0, 1) := by decide +kernel
theorem dX1_search_221 : decode cX1_search 221 = .ok (.getfield 313, 3) := by decide +kernel
theorem dX1_search_224 : decode cX1_search 224 = .ok (.aload_n 0, 1) := by decide +kernel
theorem dX1_search_225 : decode cX1_search 225 = .ok (.getfield 16, 3) := by decide +kernel
theorem dX1_search_228 : decode cX1_search 228 = .ok (.iload 6, 2) := by decide +kernel
theorem dX1_search_230 : decode cX1_search 230 = .ok (.bipush 8, 2) := by decide +kernel
theorem dX1_search_232 : decode cX1_search 232 = .ok (.idiv, 1) := by decide +kernel
theorem dX1_search_233 : decode cX1_search 233 = .ok (.iaload, 1) := by decide +kernel
theorem dX1_search_234 : decode cX1_search 234 = .ok (.iadd, 1) := by decide +kernel
theorem dX1_search_235 : decode cX1_search 235 = .ok (.iload_n 3, 1) := by decide +kernel
theorem dX1_search_236 : decode cX1_search 236 = .ok (.aload_n 0, 1) := by decide +kernel
theorem dX1_search_237 : decode cX1_search 237 = .ok (.getfield 307, 3) := by decide +kernel
theorem dX1_search_240 : decode cX1_search 240 = .ok (.aload_n 0, 1) := by decide +kernel
theorem dX1_search_241 : decode cX1_search 241 = .ok (.getfield 329, 3) := by decide +kernel
theorem dX1_search_244 : decode cX1_search 244 = .ok (.isub, 1) := by decide +kernel
theorem dX1_search_245 : decode cX1_search 245 = .ok (.imul, 1) := by decide +kernel
theorem dX1_search_246 : decode cX1_search 246 = .ok (.iadd, 1) := by decide +kernel
theorem dX1_search_247 : decode cX1_search 247 = .ok (.aload_n 0, 1) := by decide +kernel
theorem dX1_search_248 : decode cX1_search 248 = .ok (.getfield 322, 3) := by decide +kernel
theorem dX1_search_251 : decode cX1_search 251 = .ok (.if_icmp .lt 23, 3) := by decide +kernel
theorem dX1_search_254 : decode cX1_search 254 = .ok (.aload_n 0, 1) := by decide +kernel
theorem dX1_search_255 : decode cX1_search 255 = .ok (.aload_n 0, 1) := by decide +kernel
theorem dX1_search_256 : decode cX1_search 256 = .ok (.getfield 112, 3) := by decide +kernel
theorem dX1_search_259 : decode cX1_search 259 = .ok (.iload 5, 2) := by decide +kernel
theorem dX1_search_261 : decode cX1_search 261 = .ok (.iaload, 1) := by decide +kernel
theorem dX1_search_262 : decode cX1_search 262 = .ok (.iload 6, 2) := by decide +kernel
theorem dX1_search_264 : decode cX1_search 264 = .ok (.iconst 1, 1) := by decide +kernel
theorem dX1_search_265 : decode cX1_search 265 = .ok (.iadd, 1) := by decide +kernel
theorem dX1_search_266 : decode cX1_search 266 = .ok (.invokevirtual 304, 3) := by decide +kernel
theorem dX1_search_269 : decode cX1_search 269 = .ok (.istore 6, 2) := by decide +kernel
theorem dX1_search_271 : decode cX1_search 271 = .ok (.goto (-67), 3) := by decide +kernel
theorem dX1_search_274 : decode cX1_search 274 = .ok (.iload 6, 2) := by decide +kernel
theorem dX1_search_276 : decode cX1_search 276 = .ok (.ifCond .lt 7, 3) := by decide +kernel
theorem dX1_search_279 : decode cX1_search 279 = .ok (.iconst 1, 1) := by decide +kernel
theorem dX1_search_280 : decode cX1_search 280 = .ok (.goto 4, 3) := by decide +kernel
theorem dX1_search_283 : decode cX1_search 283 = .ok (.iconst 0, 1) := by decide +kernel
theorem dX1_search_284 : decode cX1_search 284 = .ok (.istore 4, 2) := by decide +kernel
theorem dX1_search_286 : decode cX1_search 286 = .ok (.iload 4, 2) := by decide +kernel
theorem dX1_search_288 : decode cX1_search 288 = .ok (.ifCond .ne 16, 3) := by decide +kernel
theorem dX1_search_291 : decode cX1_search 291 = .ok (.aload_n 0, 1) := by decide +kernel
theorem dX1_search_292 : decode cX1_search 292 = .ok (.dup, 1) := by decide +kernel
theorem dX1_search_293 : decode cX1_search 293 = .ok (.getfield 329, 3) := by decide +kernel
theorem dX1_search_296 : decode cX1_search 296 = .ok (.iconst 1, 1) := by decide +kernel
theorem dX1_search_297 : decode cX1_search 297 = .ok (.isub, 1) := by decide +kernel
theorem dX1_search_298 : decode cX1_search 298 = .ok (.putfield 329, 3) := by decide +kernel
theorem dX1_search_301 : decode cX1_search 301 = .ok (.goto (-255), 3) := by decide +kernel
theorem dX1_search_304 : decode cX1_search 304 = .ok (.aload_n 0, 1) := by decide +kernel
theorem dX1_search_305 : decode cX1_search 305 = .ok (.getfield 316, 3) := by decide +kernel
theorem dX1_search_308 : decode cX1_search 308 = .ok (.sipush 30000, 3) := by decide +kernel
theorem dX1_search_311 : decode cX1_search 311 = .ok (.if_icmp .eq 13, 3) := by decide +kernel
theorem dX1_search_314 : decode cX1_search 314 = .ok (.aload_n 0, 1) := by decide +kernel
theorem dX1_search_315 : decode cX1_search 315 = .ok (.getfield 344, 3) := by decide +kernel
theorem dX1_search_318 : decode cX1_search 318 = .ok (.ldc_w 347, 3) := by decide +kernel
theorem dX1_search_321 : decode cX1_search 321 = .ok (.if_icmp .ne 11, 3) := by decide +kernel
theorem dX1_search_324 : decode cX1_search 324 = .ok (.aload_n 0, 1) := by decide +kernel
theorem dX1_search_325 : decode cX1_search 325 = .ok (.iconst 1, 1) := by decide +kernel
theorem dX1_search_326 : decode cX1_search 326 = .ok (.putfield 325, 3) := by decide +kernel
theorem dX1_search_329 : decode cX1_search 329 = .ok (.goto (-283), 3) := by decide +kernel
theorem dX1_search_332 : decode cX1_search 332 = .ok (.aload_n 0, 1) := by decide +kernel
theorem dX1_search_333 : decode cX1_search 333 = .ok (.dup, 1) := by decide +kernel
theorem dX1_search_334 : decode cX1_search 334 = .ok (.getfield 316, 3) := by decide +kernel
theorem dX1_search_337 : decode cX1_search 337 = .ok (.iconst 1, 1) := by decide +kernel
theorem dX1_search_338 : decode cX1_search 338 = .ok (.iadd, 1) := by decide +kernel
theorem dX1_search_339 : decode cX1_search 339 = .ok (.putfield 316, 3) := by decide +kernel
theorem dX1_search_342 : decode cX1_search 342 = .ok (.aload_n 0, 1) := by decide +kernel
theorem dX1_search_343 : decode cX1_search 343 = .ok (.dup, 1) := by decide +kernel
theorem dX1_search_344 : decode cX1_search 344 = .ok (.getfield 344, 3) := by decide +kernel
theorem dX1_search_347 : decode cX1_search 347 = .ok (.iconst 1, 1) := by decide +kernel
theorem dX1_search_348 : decode cX1_search 348 = .ok (.iadd, 1) := by decide +kernel
theorem dX1_search_349 : decode cX1_search 349 = .ok (.putfield 344, 3) := by decide +kernel
theorem dX1_search_352 : decode cX1_search 352 = .ok (.aload_n 0, 1) := by decide +kernel
theorem dX1_search_353 : decode cX1_search 353 = .ok (.getfield 115, 3) := by decide +kernel
theorem dX1_search_356 : decode cX1_search 356 = .ok (.iload 5, 2) := by decide +kernel
theorem dX1_search_358 : decode cX1_search 358 = .ok (.iload 6, 2) := by decide +kernel
theorem dX1_search_360 : decode cX1_search 360 = .ok (.iastore, 1) := by decide +kernel
theorem dX1_search_361 : decode cX1_search 361 = .ok (.aload_n 0, 1) := by decide +kernel
theorem dX1_search_362 : decode cX1_search 362 = .ok (.aload_n 0, 1) := by decide +kernel
theorem dX1_search_363 : decode cX1_search 363 = .ok (.getfield 112, 3) := by decide +kernel
theorem dX1_search_366 : decode cX1_search 366 = .ok (.iload 5, 2) := by decide +kernel
theorem dX1_search_368 : decode cX1_search 368 = .ok (.iaload, 1) := by decide +kernel
theorem dX1_search_369 : decode cX1_search 369 = .ok (.iload 6, 2) := by decide +kernel
theorem dX1_search_371 : decode cX1_search 371 = .ok (.invokevirtual 348, 3) := by decide +kernel
theorem dX1_search_374 : decode cX1_search 374 = .ok (.goto (-328), 3) := by decide +kernel
theorem dX1_search_377 : decode cX1_search 377 = .ok (.return_, 1) := by decide +kernel
theorem dX1_leastCost_0 : decode cX1_leastCost 0 = .ok (.iconst 0, 1) := by decide +kernel
theorem dX1_leastCost_1 : decode cX1_leastCost 1 = .ok (.istore_n 1, 1) := by decide +kernel
theorem dX1_leastCost_2 : decode cX1_leastCost 2 = .ok (.iconst 0, 1) := by decide +kernel
theorem dX1_leastCost_3 : decode cX1_leastCost 3 = .ok (.istore_n 2, 1) := by decide +kernel
theorem dX1_leastCost_4 : decode cX1_leastCost 4 = .ok (.iconst 0, 1) := by decide +kernel
theorem dX1_leastCost_5 : decode cX1_leastCost 5 = .ok (.istore_n 3, 1) := by decide +kernel
theorem dX1_leastCost_6 : decode cX1_leastCost 6 = .ok (.iload_n 3, 1) := by decide +kernel
theorem dX1_leastCost_7 : decode cX1_leastCost 7 = .ok (.aload_n 0, 1) := by decide +kernel
theorem dX1_leastCost_8 : decode cX1_leastCost 8 = .ok (.getfield 128, 3) := by decide +kernel
theorem dX1_leastCost_11 : decode cX1_leastCost 11 = .ok (.if_icmp .ge 52, 3) := by decide +kernel
theorem dX1_leastCost_14 : decode cX1_leastCost 14 = .ok (.aload_n 0, 1) := by decide +kernel
theorem dX1_leastCost_15 : decode cX1_leastCost 15 = .ok (.getfield 100, 3) := by decide +kernel
theorem dX1_leastCost_18 : decode cX1_leastCost 18 = .ok (.bipush 40, 2) := by decide +kernel
theorem dX1_leastCost_20 : decode cX1_leastCost 20 = .ok (.aload_n 0, 1) := by decide +kernel
theorem dX1_leastCost_21 : decode cX1_leastCost 21 = .ok (.getfield 294, 3) := by decide +kernel
theorem dX1_leastCost_24 : decode cX1_leastCost 24 = .ok (.imul, 1) := by decide +kernel
theorem dX1_leastCost_25 : decode cX1_leastCost 25 = .ok (.iload_n 3, 1) := by decide +kernel
theorem dX1_leastCost_26 : decode cX1_leastCost 26 = .ok (.iadd, 1) := by decide +kernel
theorem dX1_leastCost_27 : decode cX1_leastCost 27 = .ok (.iaload, 1) := by decide +kernel
theorem dX1_leastCost_28 : decode cX1_leastCost 28 = .ok (.ifCond .eq 29, 3) := by decide +kernel
theorem dX1_leastCost_31 : decode cX1_leastCost 31 = .ok (.iload_n 2, 1) := by decide +kernel
theorem dX1_leastCost_32 : decode cX1_leastCost 32 = .ok (.ifCond .eq 16, 3) := by decide +kernel
theorem dX1_leastCost_35 : decode cX1_leastCost 35 = .ok (.aload_n 0, 1) := by decide +kernel
theorem dX1_leastCost_36 : decode cX1_leastCost 36 = .ok (.getfield 16, 3) := by decide +kernel
theorem dX1_leastCost_39 : decode cX1_leastCost 39 = .ok (.iload_n 3, 1) := by decide +kernel
theorem dX1_leastCost_40 : decode cX1_leastCost 40 = .ok (.iaload, 1) := by decide +kernel
theorem dX1_leastCost_41 : decode cX1_leastCost 41 = .ok (.iload_n 1, 1) := by decide +kernel
theorem dX1_leastCost_42 : decode cX1_leastCost 42 = .ok (.if_icmp .lt 6, 3) := by decide +kernel
theorem dX1_leastCost_45 : decode cX1_leastCost 45 = .ok (.goto 12, 3) := by decide +kernel
theorem dX1_leastCost_48 : decode cX1_leastCost 48 = .ok (.aload_n 0, 1) := by decide +kernel
theorem dX1_leastCost_49 : decode cX1_leastCost 49 = .ok (.getfield 16, 3) := by decide +kernel
theorem dX1_leastCost_52 : decode cX1_leastCost 52 = .ok (.iload_n 3, 1) := by decide +kernel
theorem dX1_leastCost_53 : decode cX1_leastCost 53 = .ok (.iaload, 1) := by decide +kernel
theorem dX1_leastCost_54 : decode cX1_leastCost 54 = .ok (.istore_n 1, 1) := by decide +kernel
theorem dX1_leastCost_55 : decode cX1_leastCost 55 = .ok (.iconst 1, 1) := by decide +kernel
theorem dX1_leastCost_56 : decode cX1_leastCost 56 = .ok (.istore_n 2, 1) := by decide +kernel
theorem dX1_leastCost_57 : decode cX1_leastCost 57 = .ok (.iinc 3 1, 3) := by decide +kernel
theorem dX1_leastCost_60 : decode cX1_leastCost 60 = .ok (.goto (-54), 3) := by decide +kernel
theorem dX1_leastCost_63 : decode cX1_leastCost 63 = .ok (.iload_n 1, 1) := by decide +kernel
theorem dX1_leastCost_64 : decode cX1_leastCost 64 = .ok (.ireturn, 1) := by decide +kernel
theorem dX1_nextPlace_0 : decode cX1_nextPlace 0 = .ok (.iconst (-1), 1) := by decide +kernel
theorem dX1_nextPlace_1 : decode cX1_nextPlace 1 = .ok (.istore_n 1, 1) := by decide +kernel
theorem dX1_nextPlace_2 : decode cX1_nextPlace 2 = .ok (.iconst 0, 1) := by decide +kernel
theorem dX1_nextPlace_3 : decode cX1_nextPlace 3 = .ok (.istore_n 2, 1) := by decide +kernel
theorem dX1_nextPlace_4 : decode cX1_nextPlace 4 = .ok (.iconst 0, 1) := by decide +kernel
theorem dX1_nextPlace_5 : decode cX1_nextPlace 5 = .ok (.istore_n 3, 1) := by decide +kernel
theorem dX1_nextPlace_6 : decode cX1_nextPlace 6 = .ok (.iload_n 3, 1) := by decide +kernel
theorem dX1_nextPlace_7 : decode cX1_nextPlace 7 = .ok (.aload_n 0, 1) := by decide +kernel
theorem dX1_nextPlace_8 : decode cX1_nextPlace 8 = .ok (.getfield 307, 3) := by decide +kernel
theorem dX1_nextPlace_11 : decode cX1_nextPlace 11 = .ok (.if_icmp .ge 58, 3) := by decide +kernel
theorem dX1_nextPlace_14 : decode cX1_nextPlace 14 = .ok (.aload_n 0, 1) := by decide +kernel
theorem dX1_nextPlace_15 : decode cX1_nextPlace 15 = .ok (.getfield 103, 3) := by decide +kernel
theorem dX1_nextPlace_18 : decode cX1_nextPlace 18 = .ok (.aload_n 0, 1) := by decide +kernel
theorem dX1_nextPlace_19 : decode cX1_nextPlace 19 = .ok (.getfield 109, 3) := by decide +kernel
theorem dX1_nextPlace_22 : decode cX1_nextPlace 22 = .ok (.iload_n 3, 1) := by decide +kernel
theorem dX1_nextPlace_23 : decode cX1_nextPlace 23 = .ok (.iaload, 1) := by decide +kernel
theorem dX1_nextPlace_24 : decode cX1_nextPlace 24 = .ok (.iaload, 1) := by decide +kernel
theorem dX1_nextPlace_25 : decode cX1_nextPlace 25 = .ok (.ifCond .eq 6, 3) := by decide +kernel
theorem dX1_nextPlace_28 : decode cX1_nextPlace 28 = .ok (.goto 35, 3) := by decide +kernel
theorem dX1_nextPlace_31 : decode cX1_nextPlace 31 = .ok (.aload_n 0, 1) := by decide +kernel
theorem dX1_nextPlace_32 : decode cX1_nextPlace 32 = .ok (.aload_n 0, 1) := by decide +kernel
theorem dX1_nextPlace_33 : decode cX1_nextPlace 33 = .ok (.getfield 109, 3) := by decide +kernel
theorem dX1_nextPlace_36 : decode cX1_nextPlace 36 = .ok (.iload_n 3, 1) := by decide +kernel
theorem dX1_nextPlace_37 : decode cX1_nextPlace 37 = .ok (.iaload, 1) := by decide +kernel
theorem dX1_nextPlace_38 : decode cX1_nextPlace 38 = .ok (.invokevirtual 310, 3) := by decide +kernel
theorem dX1_nextPlace_41 : decode cX1_nextPlace 41 = .ok (.istore 4, 2) := by decide +kernel
theorem dX1_nextPlace_43 : decode cX1_nextPlace 43 = .ok (.iload_n 1, 1) := by decide +kernel
theorem dX1_nextPlace_44 : decode cX1_nextPlace 44 = .ok (.ifCond .lt 9, 3) := by decide +kernel
theorem dX1_nextPlace_47 : decode cX1_nextPlace 47 = .ok (.iload 4, 2) := by decide +kernel
theorem dX1_nextPlace_49 : decode cX1_nextPlace 49 = .ok (.iload_n 2, 1) := by decide +kernel
theorem dX1_nextPlace_50 : decode cX1_nextPlace 50 = .ok (.if_icmp .ge 13, 3) := by decide +kernel
theorem dX1_nextPlace_53 : decode cX1_nextPlace 53 = .ok (.aload_n 0, 1) := by decide +kernel
theorem dX1_nextPlace_54 : decode cX1_nextPlace 54 = .ok (.getfield 109, 3) := by decide +kernel
theorem dX1_nextPlace_57 : decode cX1_nextPlace 57 = .ok (.iload_n 3, 1) := by decide +kernel
theorem dX1_nextPlace_58 : decode cX1_nextPlace 58 = .ok (.iaload, 1) := by decide +kernel
theorem dX1_nextPlace_59 : decode cX1_nextPlace 59 = .ok (.istore_n 1, 1) := by decide +kernel
theorem dX1_nextPlace_60 : decode cX1_nextPlace 60 = .ok (.iload 4, 2) := by decide +kernel
theorem dX1_nextPlace_62 : decode cX1_nextPlace 62 = .ok (.istore_n 2, 1) := by decide +kernel
theorem dX1_nextPlace_63 : decode cX1_nextPlace 63 = .ok (.iinc 3 1, 3) := by decide +kernel
theorem dX1_nextPlace_66 : decode cX1_nextPlace 66 = .ok (.goto (-60), 3) := by decide +kernel
theorem dX1_nextPlace_69 : decode cX1_nextPlace 69 = .ok (.iload_n 1, 1) := by decide +kernel
theorem dX1_nextPlace_70 : decode cX1_nextPlace 70 = .ok (.ireturn, 1) := by decide +kernel
theorem dX1_fitting_0 : decode cX1_fitting 0 = .ok (.iconst 0, 1) := by decide +kernel
theorem dX1_fitting_1 : decode cX1_fitting 1 = .ok (.istore_n 2, 1) := by decide +kernel
theorem dX1_fitting_2 : decode cX1_fitting 2 = .ok (.aload_n 0, 1) := by decide +kernel
theorem dX1_fitting_3 : decode cX1_fitting 3 = .ok (.iload_n 1, 1) := by decide +kernel
theorem dX1_fitting_4 : decode cX1_fitting 4 = .ok (.iconst 0, 1) := by decide +kernel
theorem dX1_fitting_5 : decode cX1_fitting 5 = .ok (.invokevirtual 304, 3) := by decide +kernel
theorem dX1_fitting_8 : decode cX1_fitting 8 = .ok (.istore_n 3, 1) := by decide +kernel
theorem dX1_fitting_9 : decode cX1_fitting 9 = .ok (.iload_n 3, 1) := by decide +kernel
theorem dX1_fitting_10 : decode cX1_fitting 10 = .ok (.ifCond .lt 18, 3) := by decide +kernel
theorem dX1_fitting_13 : decode cX1_fitting 13 = .ok (.iinc 2 1, 3) := by decide +kernel
theorem dX1_fitting_16 : decode cX1_fitting 16 = .ok (.aload_n 0, 1) := by decide +kernel
theorem dX1_fitting_17 : decode cX1_fitting 17 = .ok (.iload_n 1, 1) := by decide +kernel
theorem dX1_fitting_18 : decode cX1_fitting 18 = .ok (.iload_n 3, 1) := by decide +kernel
theorem dX1_fitting_19 : decode cX1_fitting 19 = .ok (.iconst 1, 1) := by decide +kernel
theorem dX1_fitting_20 : decode cX1_fitting 20 = .ok (.iadd, 1) := by decide +kernel
theorem dX1_fitting_21 : decode cX1_fitting 21 = .ok (.invokevirtual 304, 3) := by decide +kernel
theorem dX1_fitting_24 : decode cX1_fitting 24 = .ok (.istore_n 3, 1) := by decide +kernel
theorem dX1_fitting_25 : decode cX1_fitting 25 = .ok (.goto (-16), 3) := by decide +kernel
theorem dX1_fitting_28 : decode cX1_fitting 28 = .ok (.iload_n 2, 1) := by decide +kernel
theorem dX1_fitting_29 : decode cX1_fitting 29 = .ok (.ireturn, 1) := by decide +kernel
theorem dX1_nextFitting_0 : decode cX1_nextFitting 0 = .ok (.iload_n 2, 1) := by decide +kernel
theorem dX1_nextFitting_1 : decode cX1_nextFitting 1 = .ok (.istore_n 3, 1) := by decide +kernel
theorem dX1_nextFitting_2 : decode cX1_nextFitting 2 = .ok (.iload_n 3, 1) := by decide +kernel
theorem dX1_nextFitting_3 : decode cX1_nextFitting 3 = .ok (.bipush 8, 2) := by decide +kernel
theorem dX1_nextFitting_5 : decode cX1_nextFitting 5 = .ok (.aload_n 0, 1) := by decide +kernel
theorem dX1_nextFitting_6 : decode cX1_nextFitting 6 = .ok (.getfield 128, 3) := by decide +kernel
theorem dX1_nextFitting_9 : decode cX1_nextFitting 9 = .ok (.imul, 1) := by decide +kernel
theorem dX1_nextFitting_10 : decode cX1_nextFitting 10 = .ok (.if_icmp .ge 62, 3) := by decide +kernel
theorem dX1_nextFitting_13 : decode cX1_nextFitting 13 = .ok (.iload_n 3, 1) := by decide +kernel
theorem dX1_nextFitting_14 : decode cX1_nextFitting 14 = .ok (.bipush 8, 2) := by decide +kernel
theorem dX1_nextFitting_16 : decode cX1_nextFitting 16 = .ok (.idiv, 1) := by decide +kernel
theorem dX1_nextFitting_17 : decode cX1_nextFitting 17 = .ok (.istore 4, 2) := by decide +kernel
theorem dX1_nextFitting_19 : decode cX1_nextFitting 19 = .ok (.aload_n 0, 1) := by decide +kernel
theorem dX1_nextFitting_20 : decode cX1_nextFitting 20 = .ok (.getfield 106, 3) := by decide +kernel
theorem dX1_nextFitting_23 : decode cX1_nextFitting 23 = .ok (.iload 4, 2) := by decide +kernel
theorem dX1_nextFitting_25 : decode cX1_nextFitting 25 = .ok (.iaload, 1) := by decide +kernel
theorem dX1_nextFitting_26 : decode cX1_nextFitting 26 = .ok (.ifCond .le 40, 3) := by decide +kernel
theorem dX1_nextFitting_29 : decode cX1_nextFitting 29 = .ok (.aload_n 0, 1) := by decide +kernel
theorem dX1_nextFitting_30 : decode cX1_nextFitting 30 = .ok (.iload 4, 2) := by decide +kernel
theorem dX1_nextFitting_32 : decode cX1_nextFitting 32 = .ok (.iload_n 3, 1) := by decide +kernel
theorem dX1_nextFitting_33 : decode cX1_nextFitting 33 = .ok (.bipush 8, 2) := by decide +kernel
theorem dX1_nextFitting_35 : decode cX1_nextFitting 35 = .ok (.irem, 1) := by decide +kernel
theorem dX1_nextFitting_36 : decode cX1_nextFitting 36 = .ok (.invokevirtual 148, 3) := by decide +kernel
theorem dX1_nextFitting_39 : decode cX1_nextFitting 39 = .ok (.iload_n 3, 1) := by decide +kernel
theorem dX1_nextFitting_40 : decode cX1_nextFitting 40 = .ok (.bipush 8, 2) := by decide +kernel
theorem dX1_nextFitting_42 : decode cX1_nextFitting 42 = .ok (.irem, 1) := by decide +kernel
theorem dX1_nextFitting_43 : decode cX1_nextFitting 43 = .ok (.if_icmp .ne 23, 3) := by decide +kernel
theorem dX1_nextFitting_46 : decode cX1_nextFitting 46 = .ok (.aload_n 0, 1) := by decide +kernel
theorem dX1_nextFitting_47 : decode cX1_nextFitting 47 = .ok (.iload_n 1, 1) := by decide +kernel
theorem dX1_nextFitting_48 : decode cX1_nextFitting 48 = .ok (.iload 4, 2) := by decide +kernel
theorem dX1_nextFitting_50 : decode cX1_nextFitting 50 = .ok (.iload_n 3, 1) := by decide +kernel
theorem dX1_nextFitting_51 : decode cX1_nextFitting 51 = .ok (.bipush 8, 2) := by decide +kernel
theorem dX1_nextFitting_53 : decode cX1_nextFitting 53 = .ok (.irem, 1) := by decide +kernel
theorem dX1_nextFitting_54 : decode cX1_nextFitting 54 = .ok (.iconst 0, 1) := by decide +kernel
theorem dX1_nextFitting_55 : decode cX1_nextFitting 55 = .ok (.invokestatic 166, 3) := by decide +kernel
theorem dX1_nextFitting_58 : decode cX1_nextFitting 58 = .ok (.invokevirtual 300, 3) := by decide +kernel
theorem dX1_nextFitting_61 : decode cX1_nextFitting 61 = .ok (.ifCond .eq 5, 3) := by decide +kernel
theorem dX1_nextFitting_64 : decode cX1_nextFitting 64 = .ok (.iload_n 3, 1) := by decide +kernel
theorem dX1_nextFitting_65 : decode cX1_nextFitting 65 = .ok (.ireturn, 1) := by decide +kernel
theorem dX1_nextFitting_66 : decode cX1_nextFitting 66 = .ok (.iinc 3 1, 3) := by decide +kernel
theorem dX1_nextFitting_69 : decode cX1_nextFitting 69 = .ok (.goto (-67), 3) := by decide +kernel
theorem dX1_nextFitting_72 : decode cX1_nextFitting 72 = .ok (.iconst (-1), 1) := by decide +kernel
theorem dX1_nextFitting_73 : decode cX1_nextFitting 73 = .ok (.ireturn, 1) := by decide +kernel
theorem dX1_show_0 : decode cX1_show 0 = .ok (.iconst 0, 1) := by decide +kernel
theorem dX1_show_1 : decode cX1_show 1 = .ok (.istore_n 1, 1) := by decide +kernel
theorem dX1_show_2 : decode cX1_show 2 = .ok (.iload_n 1, 1) := by decide +kernel
theorem dX1_show_3 : decode cX1_show 3 = .ok (.aload_n 0, 1) := by decide +kernel
theorem dX1_show_4 : decode cX1_show 4 = .ok (.getfield 307, 3) := by decide +kernel
theorem dX1_show_7 : decode cX1_show 7 = .ok (.if_icmp .ge 39, 3) := by decide +kernel
theorem dX1_show_10 : decode cX1_show 10 = .ok (.aload_n 0, 1) := by decide +kernel
theorem dX1_show_11 : decode cX1_show 11 = .ok (.getfield 97, 3) := by decide +kernel
theorem dX1_show_14 : decode cX1_show 14 = .ok (.bipush 64, 2) := by decide +kernel
theorem dX1_show_16 : decode cX1_show 16 = .ok (.aload_n 0, 1) := by decide +kernel
theorem dX1_show_17 : decode cX1_show 17 = .ok (.getfield 294, 3) := by decide +kernel
theorem dX1_show_20 : decode cX1_show 20 = .ok (.imul, 1) := by decide +kernel
theorem dX1_show_21 : decode cX1_show 21 = .ok (.aload_n 0, 1) := by decide +kernel
theorem dX1_show_22 : decode cX1_show 22 = .ok (.getfield 109, 3) := by decide +kernel
theorem dX1_show_25 : decode cX1_show 25 = .ok (.iload_n 1, 1) := by decide +kernel
theorem dX1_show_26 : decode cX1_show 26 = .ok (.iaload, 1) := by decide +kernel
theorem dX1_show_27 : decode cX1_show 27 = .ok (.iadd, 1) := by decide +kernel
theorem dX1_show_28 : decode cX1_show 28 = .ok (.aload_n 0, 1) := by decide +kernel
theorem dX1_show_29 : decode cX1_show 29 = .ok (.getfield 103, 3) := by decide +kernel
theorem dX1_show_32 : decode cX1_show 32 = .ok (.aload_n 0, 1) := by decide +kernel
theorem dX1_show_33 : decode cX1_show 33 = .ok (.getfield 109, 3) := by decide +kernel
theorem dX1_show_36 : decode cX1_show 36 = .ok (.iload_n 1, 1) := by decide +kernel
theorem dX1_show_37 : decode cX1_show 37 = .ok (.iaload, 1) := by decide +kernel
theorem dX1_show_38 : decode cX1_show 38 = .ok (.iaload, 1) := by decide +kernel
theorem dX1_show_39 : decode cX1_show 39 = .ok (.iastore, 1) := by decide +kernel
theorem dX1_show_40 : decode cX1_show 40 = .ok (.iinc 1 1, 3) := by decide +kernel
theorem dX1_show_43 : decode cX1_show 43 = .ok (.goto (-41), 3) := by decide +kernel
theorem dX1_show_46 : decode cX1_show 46 = .ok (.return_, 1) := by decide +kernel
theorem dX1_takeBack_0 : decode cX1_takeBack 0 = .ok (.aload_n 0, 1) := by decide +kernel
theorem dX1_takeBack_1 : decode cX1_takeBack 1 = .ok (.getfield 103, 3) := by decide +kernel
theorem dX1_takeBack_4 : decode cX1_takeBack 4 = .ok (.iload_n 1, 1) := by decide +kernel
theorem dX1_takeBack_5 : decode cX1_takeBack 5 = .ok (.iaload, 1) := by decide +kernel
theorem dX1_takeBack_6 : decode cX1_takeBack 6 = .ok (.invokestatic 156, 3) := by decide +kernel
theorem dX1_takeBack_9 : decode cX1_takeBack 9 = .ok (.istore_n 2, 1) := by decide +kernel
theorem dX1_takeBack_10 : decode cX1_takeBack 10 = .ok (.aload_n 0, 1) := by decide +kernel
theorem dX1_takeBack_11 : decode cX1_takeBack 11 = .ok (.getfield 103, 3) := by decide +kernel
theorem dX1_takeBack_14 : decode cX1_takeBack 14 = .ok (.iload_n 1, 1) := by decide +kernel
theorem dX1_takeBack_15 : decode cX1_takeBack 15 = .ok (.iconst 0, 1) := by decide +kernel
theorem dX1_takeBack_16 : decode cX1_takeBack 16 = .ok (.iastore, 1) := by decide +kernel
theorem dX1_takeBack_17 : decode cX1_takeBack 17 = .ok (.aload_n 0, 1) := by decide +kernel
theorem dX1_takeBack_18 : decode cX1_takeBack 18 = .ok (.getfield 106, 3) := by decide +kernel
theorem dX1_takeBack_21 : decode cX1_takeBack 21 = .ok (.iload_n 2, 1) := by decide +kernel
theorem dX1_takeBack_22 : decode cX1_takeBack 22 = .ok (.dup2, 1) := by decide +kernel
theorem dX1_takeBack_23 : decode cX1_takeBack 23 = .ok (.iaload, 1) := by decide +kernel
theorem dX1_takeBack_24 : decode cX1_takeBack 24 = .ok (.iconst 1, 1) := by decide +kernel
theorem dX1_takeBack_25 : decode cX1_takeBack 25 = .ok (.iadd, 1) := by decide +kernel
theorem dX1_takeBack_26 : decode cX1_takeBack 26 = .ok (.iastore, 1) := by decide +kernel
theorem dX1_takeBack_27 : decode cX1_takeBack 27 = .ok (.aload_n 0, 1) := by decide +kernel
theorem dX1_takeBack_28 : decode cX1_takeBack 28 = .ok (.dup, 1) := by decide +kernel
theorem dX1_takeBack_29 : decode cX1_takeBack 29 = .ok (.getfield 313, 3) := by decide +kernel
theorem dX1_takeBack_32 : decode cX1_takeBack 32 = .ok (.aload_n 0, 1) := by decide +kernel
theorem dX1_takeBack_33 : decode cX1_takeBack 33 = .ok (.getfield 16, 3) := by decide +kernel
theorem dX1_takeBack_36 : decode cX1_takeBack 36 = .ok (.iload_n 2, 1) := by decide +kernel
theorem dX1_takeBack_37 : decode cX1_takeBack 37 = .ok (.iaload, 1) := by decide +kernel
theorem dX1_takeBack_38 : decode cX1_takeBack 38 = .ok (.isub, 1) := by decide +kernel
theorem dX1_takeBack_39 : decode cX1_takeBack 39 = .ok (.putfield 313, 3) := by decide +kernel
theorem dX1_takeBack_42 : decode cX1_takeBack 42 = .ok (.return_, 1) := by decide +kernel
theorem dX1_lay_0 : decode cX1_lay 0 = .ok (.aload_n 0, 1) := by decide +kernel
theorem dX1_lay_1 : decode cX1_lay 1 = .ok (.getfield 103, 3) := by decide +kernel
theorem dX1_lay_4 : decode cX1_lay 4 = .ok (.iload_n 1, 1) := by decide +kernel
theorem dX1_lay_5 : decode cX1_lay 5 = .ok (.iload_n 2, 1) := by decide +kernel
theorem dX1_lay_6 : decode cX1_lay 6 = .ok (.bipush 8, 2) := by decide +kernel
theorem dX1_lay_8 : decode cX1_lay 8 = .ok (.idiv, 1) := by decide +kernel
theorem dX1_lay_9 : decode cX1_lay 9 = .ok (.iload_n 2, 1) := by decide +kernel
theorem dX1_lay_10 : decode cX1_lay 10 = .ok (.bipush 8, 2) := by decide +kernel
theorem dX1_lay_12 : decode cX1_lay 12 = .ok (.irem, 1) := by decide +kernel
theorem dX1_lay_13 : decode cX1_lay 13 = .ok (.iconst 0, 1) := by decide +kernel
theorem dX1_lay_14 : decode cX1_lay 14 = .ok (.invokestatic 166, 3) := by decide +kernel
theorem dX1_lay_17 : decode cX1_lay 17 = .ok (.iastore, 1) := by decide +kernel
theorem dX1_lay_18 : decode cX1_lay 18 = .ok (.aload_n 0, 1) := by decide +kernel
theorem dX1_lay_19 : decode cX1_lay 19 = .ok (.getfield 106, 3) := by decide +kernel
theorem dX1_lay_22 : decode cX1_lay 22 = .ok (.iload_n 2, 1) := by decide +kernel
theorem dX1_lay_23 : decode cX1_lay 23 = .ok (.bipush 8, 2) := by decide +kernel
theorem dX1_lay_25 : decode cX1_lay 25 = .ok (.idiv, 1) := by decide +kernel
theorem dX1_lay_26 : decode cX1_lay 26 = .ok (.dup2, 1) := by decide +kernel
theorem dX1_lay_27 : decode cX1_lay 27 = .ok (.iaload, 1) := by decide +kernel
theorem dX1_lay_28 : decode cX1_lay 28 = .ok (.iconst 1, 1) := by decide +kernel
theorem dX1_lay_29 : decode cX1_lay 29 = .ok (.isub, 1) := by decide +kernel
theorem dX1_lay_30 : decode cX1_lay 30 = .ok (.iastore, 1) := by decide +kernel
theorem dX1_lay_31 : decode cX1_lay 31 = .ok (.aload_n 0, 1) := by decide +kernel
theorem dX1_lay_32 : decode cX1_lay 32 = .ok (.dup, 1) := by decide +kernel
theorem dX1_lay_33 : decode cX1_lay 33 = .ok (.getfield 313, 3) := by decide +kernel
theorem dX1_lay_36 : decode cX1_lay 36 = .ok (.aload_n 0, 1) := by decide +kernel
theorem dX1_lay_37 : decode cX1_lay 37 = .ok (.getfield 16, 3) := by decide +kernel
theorem dX1_lay_40 : decode cX1_lay 40 = .ok (.iload_n 2, 1) := by decide +kernel
theorem dX1_lay_41 : decode cX1_lay 41 = .ok (.bipush 8, 2) := by decide +kernel
theorem dX1_lay_43 : decode cX1_lay 43 = .ok (.idiv, 1) := by decide +kernel
theorem dX1_lay_44 : decode cX1_lay 44 = .ok (.iaload, 1) := by decide +kernel
theorem dX1_lay_45 : decode cX1_lay 45 = .ok (.iadd, 1) := by decide +kernel
theorem dX1_lay_46 : decode cX1_lay 46 = .ok (.putfield 313, 3) := by decide +kernel
theorem dX1_lay_49 : decode cX1_lay 49 = .ok (.return_, 1) := by decide +kernel
theorem dX1_fills_0 : decode cX1_fills 0 = .ok (.aload_n 0, 1) := by decide +kernel
theorem dX1_fills_1 : decode cX1_fills 1 = .ok (.iload_n 1, 1) := by decide +kernel
theorem dX1_fills_2 : decode cX1_fills 2 = .ok (.invokevirtual 288, 3) := by decide +kernel
theorem dX1_fills_5 : decode cX1_fills 5 = .ok (.ifCond .eq 15, 3) := by decide +kernel
theorem dX1_fills_8 : decode cX1_fills 8 = .ok (.iload_n 2, 1) := by decide +kernel
theorem dX1_fills_9 : decode cX1_fills 9 = .ok (.iconst 1, 1) := by decide +kernel
theorem dX1_fills_10 : decode cX1_fills 10 = .ok (.if_icmp .lt 10, 3) := by decide +kernel
theorem dX1_fills_13 : decode cX1_fills 13 = .ok (.iload_n 2, 1) := by decide +kernel
theorem dX1_fills_14 : decode cX1_fills 14 = .ok (.sipush 1000, 3) := by decide +kernel
theorem dX1_fills_17 : decode cX1_fills 17 = .ok (.if_icmp .le 5, 3) := by decide +kernel
theorem dX1_fills_20 : decode cX1_fills 20 = .ok (.iconst (-1), 1) := by decide +kernel
theorem dX1_fills_21 : decode cX1_fills 21 = .ok (.ireturn, 1) := by decide +kernel
theorem dX1_fills_22 : decode cX1_fills 22 = .ok (.aload_n 0, 1) := by decide +kernel
theorem dX1_fills_23 : decode cX1_fills 23 = .ok (.iload_n 1, 1) := by decide +kernel
theorem dX1_fills_24 : decode cX1_fills 24 = .ok (.invokevirtual 351, 3) := by decide +kernel
theorem dX1_fills_27 : decode cX1_fills 27 = .ok (.ifCond .ne 5, 3) := by decide +kernel
theorem dX1_fills_30 : decode cX1_fills 30 = .ok (.iconst 0, 1) := by decide +kernel
theorem dX1_fills_31 : decode cX1_fills 31 = .ok (.ireturn, 1) := by decide +kernel
theorem dX1_fills_32 : decode cX1_fills 32 = .ok (.aload_n 0, 1) := by decide +kernel
theorem dX1_fills_33 : decode cX1_fills 33 = .ok (.iload_n 2, 1) := by decide +kernel
theorem dX1_fills_34 : decode cX1_fills 34 = .ok (.iconst 0, 1) := by decide +kernel
theorem dX1_fills_35 : decode cX1_fills 35 = .ok (.invokevirtual 354, 3) := by decide +kernel
theorem dX1_fills_38 : decode cX1_fills 38 = .ok (.aload_n 0, 1) := by decide +kernel
theorem dX1_fills_39 : decode cX1_fills 39 = .ok (.getfield 325, 3) := by decide +kernel
theorem dX1_fills_42 : decode cX1_fills 42 = .ok (.ifCond .eq 8, 3) := by decide +kernel
theorem dX1_fills_45 : decode cX1_fills 45 = .ok (.bipush (-2), 2) := by decide +kernel
theorem dX1_fills_47 : decode cX1_fills 47 = .ok (.goto 7, 3) := by decide +kernel
theorem dX1_fills_50 : decode cX1_fills 50 = .ok (.aload_n 0, 1) := by decide +kernel
theorem dX1_fills_51 : decode cX1_fills 51 = .ok (.getfield 319, 3) := by decide +kernel
theorem dX1_fills_54 : decode cX1_fills 54 = .ok (.ireturn, 1) := by decide +kernel
theorem dX1_cheapest_0 : decode cX1_cheapest 0 = .ok (.aload_n 0, 1) := by decide +kernel
theorem dX1_cheapest_1 : decode cX1_cheapest 1 = .ok (.iload_n 1, 1) := by decide +kernel
theorem dX1_cheapest_2 : decode cX1_cheapest 2 = .ok (.invokevirtual 288, 3) := by decide +kernel
theorem dX1_cheapest_5 : decode cX1_cheapest 5 = .ok (.ifCond .ne 5, 3) := by decide +kernel
theorem dX1_cheapest_8 : decode cX1_cheapest 8 = .ok (.iconst (-1), 1) := by decide +kernel
theorem dX1_cheapest_9 : decode cX1_cheapest 9 = .ok (.ireturn, 1) := by decide +kernel
theorem dX1_cheapest_10 : decode cX1_cheapest 10 = .ok (.aload_n 0, 1) := by decide +kernel
theorem dX1_cheapest_11 : decode cX1_cheapest 11 = .ok (.iload_n 1, 1) := by decide +kernel
theorem dX1_cheapest_12 : decode cX1_cheapest 12 = .ok (.invokevirtual 351, 3) := by decide +kernel
theorem dX1_cheapest_15 : decode cX1_cheapest 15 = .ok (.ifCond .ne 6, 3) := by decide +kernel
theorem dX1_cheapest_18 : decode cX1_cheapest 18 = .ok (.bipush (-2), 2) := by decide +kernel
theorem dX1_cheapest_20 : decode cX1_cheapest 20 = .ok (.ireturn, 1) := by decide +kernel
theorem dX1_cheapest_21 : decode cX1_cheapest 21 = .ok (.aload_n 0, 1) := by decide +kernel
theorem dX1_cheapest_22 : decode cX1_cheapest 22 = .ok (.ldc_w 358, 3) := by decide +kernel
theorem dX1_cheapest_25 : decode cX1_cheapest 25 = .ok (.iconst 1, 1) := by decide +kernel
theorem dX1_cheapest_26 : decode cX1_cheapest 26 = .ok (.invokevirtual 354, 3) := by decide +kernel
theorem dX1_cheapest_29 : decode cX1_cheapest 29 = .ok (.aload_n 0, 1) := by decide +kernel
theorem dX1_cheapest_30 : decode cX1_cheapest 30 = .ok (.getfield 325, 3) := by decide +kernel
theorem dX1_cheapest_33 : decode cX1_cheapest 33 = .ok (.ifCond .eq 8, 3) := by decide +kernel
theorem dX1_cheapest_36 : decode cX1_cheapest 36 = .ok (.bipush (-3), 2) := by decide +kernel
theorem dX1_cheapest_38 : decode cX1_cheapest 38 = .ok (.goto 19, 3) := by decide +kernel
theorem dX1_cheapest_41 : decode cX1_cheapest 41 = .ok (.aload_n 0, 1) := by decide +kernel
theorem dX1_cheapest_42 : decode cX1_cheapest 42 = .ok (.getfield 319, 3) := by decide +kernel
theorem dX1_cheapest_45 : decode cX1_cheapest 45 = .ok (.ifCond .le 10, 3) := by decide +kernel
theorem dX1_cheapest_48 : decode cX1_cheapest 48 = .ok (.aload_n 0, 1) := by decide +kernel
theorem dX1_cheapest_49 : decode cX1_cheapest 49 = .ok (.getfield 322, 3) := by decide +kernel
theorem dX1_cheapest_52 : decode cX1_cheapest 52 = .ok (.goto 5, 3) := by decide +kernel
theorem dX1_cheapest_55 : decode cX1_cheapest 55 = .ok (.bipush (-2), 2) := by decide +kernel
theorem dX1_cheapest_57 : decode cX1_cheapest 57 = .ok (.ireturn, 1) := by decide +kernel
theorem dX1_forced_0 : decode cX1_forced 0 = .ok (.aload_n 0, 1) := by decide +kernel
theorem dX1_forced_1 : decode cX1_forced 1 = .ok (.iload_n 1, 1) := by decide +kernel
theorem dX1_forced_2 : decode cX1_forced 2 = .ok (.invokevirtual 288, 3) := by decide +kernel
theorem dX1_forced_5 : decode cX1_forced 5 = .ok (.ifCond .ne 5, 3) := by decide +kernel
theorem dX1_forced_8 : decode cX1_forced 8 = .ok (.iconst (-1), 1) := by decide +kernel
theorem dX1_forced_9 : decode cX1_forced 9 = .ok (.ireturn, 1) := by decide +kernel
theorem dX1_forced_10 : decode cX1_forced 10 = .ok (.aload_n 0, 1) := by decide +kernel
theorem dX1_forced_11 : decode cX1_forced 11 = .ok (.iload_n 1, 1) := by decide +kernel
theorem dX1_forced_12 : decode cX1_forced 12 = .ok (.invokevirtual 351, 3) := by decide +kernel
theorem dX1_forced_15 : decode cX1_forced 15 = .ok (.istore_n 2, 1) := by decide +kernel
theorem dX1_forced_16 : decode cX1_forced 16 = .ok (.iconst 0, 1) := by decide +kernel
theorem dX1_forced_17 : decode cX1_forced 17 = .ok (.istore_n 3, 1) := by decide +kernel
theorem dX1_forced_18 : decode cX1_forced 18 = .ok (.iconst 1, 1) := by decide +kernel
theorem dX1_forced_19 : decode cX1_forced 19 = .ok (.istore 4, 2) := by decide +kernel
theorem dX1_forced_21 : decode cX1_forced 21 = .ok (.iload 4, 2) := by decide +kernel
theorem dX1_forced_23 : decode cX1_forced 23 = .ok (.ifCond .le 177, 3) := by decide +kernel
theorem dX1_forced_26 : decode cX1_forced 26 = .ok (.iconst 0, 1) := by decide +kernel
theorem dX1_forced_27 : decode cX1_forced 27 = .ok (.istore 4, 2) := by decide +kernel
theorem dX1_forced_29 : decode cX1_forced 29 = .ok (.iconst 0, 1) := by decide +kernel
theorem dX1_forced_30 : decode cX1_forced 30 = .ok (.istore 5, 2) := by decide +kernel
theorem dX1_forced_32 : decode cX1_forced 32 = .ok (.iload 5, 2) := by decide +kernel
theorem dX1_forced_34 : decode cX1_forced 34 = .ok (.aload_n 0, 1) := by decide +kernel
theorem dX1_forced_35 : decode cX1_forced 35 = .ok (.getfield 307, 3) := by decide +kernel
theorem dX1_forced_38 : decode cX1_forced 38 = .ok (.if_icmp .ge 62, 3) := by decide +kernel
theorem dX1_forced_41 : decode cX1_forced 41 = .ok (.aload_n 0, 1) := by decide +kernel
theorem dX1_forced_42 : decode cX1_forced 42 = .ok (.getfield 115, 3) := by decide +kernel
theorem dX1_forced_45 : decode cX1_forced 45 = .ok (.iload 5, 2) := by decide +kernel
theorem dX1_forced_47 : decode cX1_forced 47 = .ok (.aload_n 0, 1) := by decide +kernel
theorem dX1_forced_48 : decode cX1_forced 48 = .ok (.getfield 103, 3) := by decide +kernel
theorem dX1_forced_51 : decode cX1_forced 51 = .ok (.aload_n 0, 1) := by decide +kernel
theorem dX1_forced_52 : decode cX1_forced 52 = .ok (.getfield 109, 3) := by decide +kernel
theorem dX1_forced_55 : decode cX1_forced 55 = .ok (.iload 5, 2) := by decide +kernel
theorem dX1_forced_57 : decode cX1_forced 57 = .ok (.iaload, 1) := by decide +kernel
theorem dX1_forced_58 : decode cX1_forced 58 = .ok (.iaload, 1) := by decide +kernel
theorem dX1_forced_59 : decode cX1_forced 59 = .ok (.ifCond .ne 33, 3) := by decide +kernel
theorem dX1_forced_62 : decode cX1_forced 62 = .ok (.aload_n 0, 1) := by decide +kernel
theorem dX1_forced_63 : decode cX1_forced 63 = .ok (.aload_n 0, 1) := by decide +kernel
theorem dX1_forced_64 : decode cX1_forced 64 = .ok (.getfield 109, 3) := by decide +kernel
theorem dX1_forced_67 : decode cX1_forced 67 = .ok (.iload 5, 2) := by decide +kernel
theorem dX1_forced_69 : decode cX1_forced 69 = .ok (.iaload, 1) := by decide +kernel
theorem dX1_forced_70 : decode cX1_forced 70 = .ok (.invokevirtual 310, 3) := by decide +kernel
theorem dX1_forced_73 : decode cX1_forced 73 = .ok (.iconst 1, 1) := by decide +kernel
theorem dX1_forced_74 : decode cX1_forced 74 = .ok (.if_icmp .ne 18, 3) := by decide +kernel
theorem dX1_forced_77 : decode cX1_forced 77 = .ok (.aload_n 0, 1) := by decide +kernel
theorem dX1_forced_78 : decode cX1_forced 78 = .ok (.aload_n 0, 1) := by decide +kernel
theorem dX1_forced_79 : decode cX1_forced 79 = .ok (.getfield 109, 3) := by decide +kernel
theorem dX1_forced_82 : decode cX1_forced 82 = .ok (.iload 5, 2) := by decide +kernel
theorem dX1_forced_84 : decode cX1_forced 84 = .ok (.iaload, 1) := by decide +kernel
theorem dX1_forced_85 : decode cX1_forced 85 = .ok (.iconst 0, 1) := by decide +kernel
theorem dX1_forced_86 : decode cX1_forced 86 = .ok (.invokevirtual 304, 3) := by decide +kernel
theorem dX1_forced_89 : decode cX1_forced 89 = .ok (.goto 4, 3) := by decide +kernel
theorem dX1_forced_92 : decode cX1_forced 92 = .ok (.iconst (-1), 1) := by decide +kernel
theorem dX1_forced_93 : decode cX1_forced 93 = .ok (.iastore, 1) := by decide +kernel
theorem dX1_forced_94 : decode cX1_forced 94 = .ok (.iinc 5 1, 3) := by decide +kernel
theorem dX1_forced_97 : decode cX1_forced 97 = .ok (.goto (-65), 3) := by decide +kernel
theorem dX1_forced_100 : decode cX1_forced 100 = .ok (.iconst 0, 1) := by decide +kernel
theorem dX1_forced_101 : decode cX1_forced 101 = .ok (.istore 5, 2) := by decide +kernel
theorem dX1_forced_103 : decode cX1_forced 103 = .ok (.iload 5, 2) := by decide +kernel
theorem dX1_forced_105 : decode cX1_forced 105 = .ok (.aload_n 0, 1) := by decide +kernel
theorem dX1_forced_106 : decode cX1_forced 106 = .ok (.getfield 307, 3) := by decide +kernel
theorem dX1_forced_109 : decode cX1_forced 109 = .ok (.if_icmp .ge 83, 3) := by decide +kernel
theorem dX1_forced_112 : decode cX1_forced 112 = .ok (.aload_n 0, 1) := by decide +kernel
theorem dX1_forced_113 : decode cX1_forced 113 = .ok (.getfield 115, 3) := by decide +kernel
theorem dX1_forced_116 : decode cX1_forced 116 = .ok (.iload 5, 2) := by decide +kernel
theorem dX1_forced_118 : decode cX1_forced 118 = .ok (.iaload, 1) := by decide +kernel
theorem dX1_forced_119 : decode cX1_forced 119 = .ok (.istore 6, 2) := by decide +kernel
theorem dX1_forced_121 : decode cX1_forced 121 = .ok (.iload 6, 2) := by decide +kernel
theorem dX1_forced_123 : decode cX1_forced 123 = .ok (.ifCond .lt 63, 3) := by decide +kernel
theorem dX1_forced_126 : decode cX1_forced 126 = .ok (.aload_n 0, 1) := by decide +kernel
theorem dX1_forced_127 : decode cX1_forced 127 = .ok (.getfield 106, 3) := by decide +kernel
theorem dX1_forced_130 : decode cX1_forced 130 = .ok (.iload 6, 2) := by decide +kernel
theorem dX1_forced_132 : decode cX1_forced 132 = .ok (.bipush 8, 2) := by decide +kernel
theorem dX1_forced_134 : decode cX1_forced 134 = .ok (.idiv, 1) := by decide +kernel
theorem dX1_forced_135 : decode cX1_forced 135 = .ok (.iaload, 1) := by decide +kernel
theorem dX1_forced_136 : decode cX1_forced 136 = .ok (.ifCond .eq 50, 3) := by decide +kernel
theorem dX1_forced_139 : decode cX1_forced 139 = .ok (.aload_n 0, 1) := by decide +kernel
theorem dX1_forced_140 : decode cX1_forced 140 = .ok (.aload_n 0, 1) := by decide +kernel
theorem dX1_forced_141 : decode cX1_forced 141 = .ok (.getfield 109, 3) := by decide +kernel
theorem dX1_forced_144 : decode cX1_forced 144 = .ok (.iload 5, 2) := by decide +kernel
theorem dX1_forced_146 : decode cX1_forced 146 = .ok (.iaload, 1) := by decide +kernel
theorem dX1_forced_147 : decode cX1_forced 147 = .ok (.iload 6, 2) := by decide +kernel
theorem dX1_forced_149 : decode cX1_forced 149 = .ok (.bipush 8, 2) := by decide +kernel
theorem dX1_forced_151 : decode cX1_forced 151 = .ok (.idiv, 1) := by decide +kernel
theorem dX1_forced_152 : decode cX1_forced 152 = .ok (.iload 6, 2) := by decide +kernel
theorem dX1_forced_154 : decode cX1_forced 154 = .ok (.bipush 8, 2) := by decide +kernel
theorem dX1_forced_156 : decode cX1_forced 156 = .ok (.irem, 1) := by decide +kernel
theorem dX1_forced_157 : decode cX1_forced 157 = .ok (.iconst 0, 1) := by decide +kernel
theorem dX1_forced_158 : decode cX1_forced 158 = .ok (.invokestatic 166, 3) := by decide +kernel
theorem dX1_forced_161 : decode cX1_forced 161 = .ok (.invokevirtual 300, 3) := by decide +kernel
theorem dX1_forced_164 : decode cX1_forced 164 = .ok (.ifCond .ne 6, 3) := by decide +kernel
theorem dX1_forced_167 : decode cX1_forced 167 = .ok (.goto 19, 3) := by decide +kernel
theorem dX1_forced_170 : decode cX1_forced 170 = .ok (.aload_n 0, 1) := by decide +kernel
theorem dX1_forced_171 : decode cX1_forced 171 = .ok (.aload_n 0, 1) := by decide +kernel
theorem dX1_forced_172 : decode cX1_forced 172 = .ok (.getfield 109, 3) := by decide +kernel
theorem dX1_forced_175 : decode cX1_forced 175 = .ok (.iload 5, 2) := by decide +kernel
theorem dX1_forced_177 : decode cX1_forced 177 = .ok (.iaload, 1) := by decide +kernel
theorem dX1_forced_178 : decode cX1_forced 178 = .ok (.iload 6, 2) := by decide +kernel
theorem dX1_forced_180 : decode cX1_forced 180 = .ok (.invokevirtual 348, 3) := by decide +kernel
theorem dX1_forced_183 : decode cX1_forced 183 = .ok (.iinc 4 1, 3) := by decide +kernel
theorem dX1_forced_186 : decode cX1_forced 186 = .ok (.iinc 5 1, 3) := by decide +kernel
theorem dX1_forced_189 : decode cX1_forced 189 = .ok (.goto (-86), 3) := by decide +kernel
theorem dX1_forced_192 : decode cX1_forced 192 = .ok (.iload_n 3, 1) := by decide +kernel
theorem dX1_forced_193 : decode cX1_forced 193 = .ok (.iload 4, 2) := by decide +kernel
theorem dX1_forced_195 : decode cX1_forced 195 = .ok (.iadd, 1) := by decide +kernel
theorem dX1_forced_196 : decode cX1_forced 196 = .ok (.istore_n 3, 1) := by decide +kernel
theorem dX1_forced_197 : decode cX1_forced 197 = .ok (.goto (-176), 3) := by decide +kernel
theorem dX1_forced_200 : decode cX1_forced 200 = .ok (.aload_n 0, 1) := by decide +kernel
theorem dX1_forced_201 : decode cX1_forced 201 = .ok (.invokevirtual 338, 3) := by decide +kernel
theorem dX1_forced_204 : decode cX1_forced 204 = .ok (.iload_n 3, 1) := by decide +kernel
theorem dX1_forced_205 : decode cX1_forced 205 = .ok (.ireturn, 1) := by decide +kernel
theorem dX1_about_0 : decode cX1_about 0 = .ok (.iload_n 1, 1) := by decide +kernel
theorem dX1_about_1 : decode cX1_about 1 = .ok (.tableswitch 96 0 8 #[51, 56, 61, 66, 71, 76, 81, 86, 91], 51) := by decide +kernel
theorem dX1_about_52 : decode cX1_about 52 = .ok (.aload_n 0, 1) := by decide +kernel
theorem dX1_about_53 : decode cX1_about 53 = .ok (.getfield 128, 3) := by decide +kernel
theorem dX1_about_56 : decode cX1_about 56 = .ok (.ireturn, 1) := by decide +kernel
theorem dX1_about_57 : decode cX1_about 57 = .ok (.aload_n 0, 1) := by decide +kernel
theorem dX1_about_58 : decode cX1_about 58 = .ok (.getfield 169, 3) := by decide +kernel
theorem dX1_about_61 : decode cX1_about 61 = .ok (.ireturn, 1) := by decide +kernel
theorem dX1_about_62 : decode cX1_about 62 = .ok (.aload_n 0, 1) := by decide +kernel
theorem dX1_about_63 : decode cX1_about 63 = .ok (.getfield 238, 3) := by decide +kernel
theorem dX1_about_66 : decode cX1_about 66 = .ok (.ireturn, 1) := by decide +kernel
theorem dX1_about_67 : decode cX1_about 67 = .ok (.aload_n 0, 1) := by decide +kernel
theorem dX1_about_68 : decode cX1_about 68 = .ok (.getfield 285, 3) := by decide +kernel
theorem dX1_about_71 : decode cX1_about 71 = .ok (.ireturn, 1) := by decide +kernel
theorem dX1_about_72 : decode cX1_about 72 = .ok (.aload_n 0, 1) := by decide +kernel
theorem dX1_about_73 : decode cX1_about 73 = .ok (.getfield 172, 3) := by decide +kernel
theorem dX1_about_76 : decode cX1_about 76 = .ok (.ireturn, 1) := by decide +kernel
theorem dX1_about_77 : decode cX1_about 77 = .ok (.aload_n 0, 1) := by decide +kernel
theorem dX1_about_78 : decode cX1_about 78 = .ok (.getfield 221, 3) := by decide +kernel
theorem dX1_about_81 : decode cX1_about 81 = .ok (.ireturn, 1) := by decide +kernel
theorem dX1_about_82 : decode cX1_about 82 = .ok (.aload_n 0, 1) := by decide +kernel
theorem dX1_about_83 : decode cX1_about 83 = .ok (.getfield 224, 3) := by decide +kernel
theorem dX1_about_86 : decode cX1_about 86 = .ok (.ireturn, 1) := by decide +kernel
theorem dX1_about_87 : decode cX1_about 87 = .ok (.aload_n 0, 1) := by decide +kernel
theorem dX1_about_88 : decode cX1_about 88 = .ok (.getfield 184, 3) := by decide +kernel
theorem dX1_about_91 : decode cX1_about 91 = .ok (.ireturn, 1) := by decide +kernel
theorem dX1_about_92 : decode cX1_about 92 = .ok (.aload_n 0, 1) := by decide +kernel
theorem dX1_about_93 : decode cX1_about 93 = .ok (.getfield 344, 3) := by decide +kernel
theorem dX1_about_96 : decode cX1_about 96 = .ok (.ireturn, 1) := by decide +kernel
theorem dX1_about_97 : decode cX1_about 97 = .ok (.iconst (-1), 1) := by decide +kernel
theorem dX1_about_98 : decode cX1_about 98 = .ok (.ireturn, 1) := by decide +kernel
