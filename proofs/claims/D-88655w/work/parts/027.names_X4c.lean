set_option maxRecDepth 100000
theorem dX4_show_167 : decode cX4_show 167 = .ok (.iload 4, 2) := by decide +kernel
theorem dX4_show_169 : decode cX4_show 169 = .ok (.invokevirtual 162, 3) := by decide +kernel
theorem dX4_show_172 : decode cX4_show 172 = .ok (.iinc 1 1, 3) := by decide +kernel
theorem dX4_show_175 : decode cX4_show 175 = .ok (.aload_n 0, 1) := by decide +kernel
theorem dX4_show_176 : decode cX4_show 176 = .ok (.dup, 1) := by decide +kernel
theorem dX4_show_177 : decode cX4_show 177 = .ok (.getfield 166, 3) := by decide +kernel
theorem dX4_show_180 : decode cX4_show 180 = .ok (.iconst 1, 1) := by decide +kernel
theorem dX4_show_181 : decode cX4_show 181 = .ok (.iadd, 1) := by decide +kernel
theorem dX4_show_182 : decode cX4_show 182 = .ok (.putfield 166, 3) := by decide +kernel
theorem dX4_show_185 : decode cX4_show 185 = .ok (.aload_n 0, 1) := by decide +kernel
theorem dX4_show_186 : decode cX4_show 186 = .ok (.dup, 1) := by decide +kernel
theorem dX4_show_187 : decode cX4_show 187 = .ok (.getfield 156, 3) := by decide +kernel
theorem dX4_show_190 : decode cX4_show 190 = .ok (.aload_n 0, 1) := by decide +kernel
theorem dX4_show_191 : decode cX4_show 191 = .ok (.getfield 166, 3) := by decide +kernel
theorem dX4_show_194 : decode cX4_show 194 = .ok (.bipush 100, 2) := by decide +kernel
theorem dX4_show_196 : decode cX4_show 196 = .ok (.irem, 1) := by decide +kernel
theorem dX4_show_197 : decode cX4_show 197 = .ok (.ifCond .ne 16, 3) := by decide +kernel
theorem dX4_show_200 : decode cX4_show 200 = .ok (.aload_n 0, 1) := by decide +kernel
theorem dX4_show_201 : decode cX4_show 201 = .ok (.getfield 156, 3) := by decide +kernel
theorem dX4_show_204 : decode cX4_show 204 = .ok (.bipush 20, 2) := by decide +kernel
theorem dX4_show_206 : decode cX4_show 206 = .ok (.if_icmp .ge 7, 3) := by decide +kernel
theorem dX4_show_209 : decode cX4_show 209 = .ok (.iconst 1, 1) := by decide +kernel
theorem dX4_show_210 : decode cX4_show 210 = .ok (.goto 4, 3) := by decide +kernel
theorem dX4_show_213 : decode cX4_show 213 = .ok (.iconst 0, 1) := by decide +kernel
theorem dX4_show_214 : decode cX4_show 214 = .ok (.iadd, 1) := by decide +kernel
theorem dX4_show_215 : decode cX4_show 215 = .ok (.putfield 156, 3) := by decide +kernel
theorem dX4_show_218 : decode cX4_show 218 = .ok (.iinc 4 1, 3) := by decide +kernel
theorem dX4_show_221 : decode cX4_show 221 = .ok (.goto (-154), 3) := by decide +kernel
theorem dX4_show_224 : decode cX4_show 224 = .ok (.iinc 3 1, 3) := by decide +kernel
theorem dX4_show_227 : decode cX4_show 227 = .ok (.goto (-171), 3) := by decide +kernel
theorem dX4_show_230 : decode cX4_show 230 = .ok (.aload_n 0, 1) := by decide +kernel
theorem dX4_show_231 : decode cX4_show 231 = .ok (.dup, 1) := by decide +kernel
theorem dX4_show_232 : decode cX4_show 232 = .ok (.getfield 169, 3) := by decide +kernel
theorem dX4_show_235 : decode cX4_show 235 = .ok (.iload_n 2, 1) := by decide +kernel
theorem dX4_show_236 : decode cX4_show 236 = .ok (.ifCond .eq 7, 3) := by decide +kernel
theorem dX4_show_239 : decode cX4_show 239 = .ok (.iconst 0, 1) := by decide +kernel
theorem dX4_show_240 : decode cX4_show 240 = .ok (.goto 4, 3) := by decide +kernel
theorem dX4_show_243 : decode cX4_show 243 = .ok (.iconst 1, 1) := by decide +kernel
theorem dX4_show_244 : decode cX4_show 244 = .ok (.iadd, 1) := by decide +kernel
theorem dX4_show_245 : decode cX4_show 245 = .ok (.putfield 169, 3) := by decide +kernel
theorem dX4_show_248 : decode cX4_show 248 = .ok (.iconst 0, 1) := by decide +kernel
theorem dX4_show_249 : decode cX4_show 249 = .ok (.istore_n 3, 1) := by decide +kernel
theorem dX4_show_250 : decode cX4_show 250 = .ok (.iload_n 3, 1) := by decide +kernel
theorem dX4_show_251 : decode cX4_show 251 = .ok (.sipush 1200, 3) := by decide +kernel
theorem dX4_show_254 : decode cX4_show 254 = .ok (.if_icmp .ge 33, 3) := by decide +kernel
theorem dX4_show_257 : decode cX4_show 257 = .ok (.aload_n 0, 1) := by decide +kernel
theorem dX4_show_258 : decode cX4_show 258 = .ok (.getfield 39, 3) := by decide +kernel
theorem dX4_show_261 : decode cX4_show 261 = .ok (.iload_n 3, 1) := by decide +kernel
theorem dX4_show_262 : decode cX4_show 262 = .ok (.aload_n 0, 1) := by decide +kernel
theorem dX4_show_263 : decode cX4_show 263 = .ok (.getfield 66, 3) := by decide +kernel
theorem dX4_show_266 : decode cX4_show 266 = .ok (.iload_n 3, 1) := by decide +kernel
theorem dX4_show_267 : decode cX4_show 267 = .ok (.iaload, 1) := by decide +kernel
theorem dX4_show_268 : decode cX4_show 268 = .ok (.iastore, 1) := by decide +kernel
theorem dX4_show_269 : decode cX4_show 269 = .ok (.aload_n 0, 1) := by decide +kernel
theorem dX4_show_270 : decode cX4_show 270 = .ok (.getfield 42, 3) := by decide +kernel
theorem dX4_show_273 : decode cX4_show 273 = .ok (.iload_n 3, 1) := by decide +kernel
theorem dX4_show_274 : decode cX4_show 274 = .ok (.aload_n 0, 1) := by decide +kernel
theorem dX4_show_275 : decode cX4_show 275 = .ok (.getfield 69, 3) := by decide +kernel
theorem dX4_show_278 : decode cX4_show 278 = .ok (.iload_n 3, 1) := by decide +kernel
theorem dX4_show_279 : decode cX4_show 279 = .ok (.iaload, 1) := by decide +kernel
theorem dX4_show_280 : decode cX4_show 280 = .ok (.iastore, 1) := by decide +kernel
theorem dX4_show_281 : decode cX4_show 281 = .ok (.iinc 3 1, 3) := by decide +kernel
theorem dX4_show_284 : decode cX4_show 284 = .ok (.goto (-34), 3) := by decide +kernel
theorem dX4_show_287 : decode cX4_show 287 = .ok (.iload_n 1, 1) := by decide +kernel
theorem dX4_show_288 : decode cX4_show 288 = .ok (.ireturn, 1) := by decide +kernel
theorem dX4_areCut_0 : decode cX4_areCut 0 = .ok (.iconst 1, 1) := by decide +kernel
theorem dX4_areCut_1 : decode cX4_areCut 1 = .ok (.istore_n 1, 1) := by decide +kernel
theorem dX4_areCut_2 : decode cX4_areCut 2 = .ok (.iconst 0, 1) := by decide +kernel
theorem dX4_areCut_3 : decode cX4_areCut 3 = .ok (.istore_n 2, 1) := by decide +kernel
theorem dX4_areCut_4 : decode cX4_areCut 4 = .ok (.iload_n 2, 1) := by decide +kernel
theorem dX4_areCut_5 : decode cX4_areCut 5 = .ok (.aload_n 0, 1) := by decide +kernel
theorem dX4_areCut_6 : decode cX4_areCut 6 = .ok (.getfield 104, 3) := by decide +kernel
theorem dX4_areCut_9 : decode cX4_areCut 9 = .ok (.if_icmp .ge 32, 3) := by decide +kernel
theorem dX4_areCut_12 : decode cX4_areCut 12 = .ok (.iload_n 1, 1) := by decide +kernel
theorem dX4_areCut_13 : decode cX4_areCut 13 = .ok (.ifCond .eq 20, 3) := by decide +kernel
theorem dX4_areCut_16 : decode cX4_areCut 16 = .ok (.aload_n 0, 1) := by decide +kernel
theorem dX4_areCut_17 : decode cX4_areCut 17 = .ok (.aload_n 0, 1) := by decide +kernel
theorem dX4_areCut_18 : decode cX4_areCut 18 = .ok (.getfield 30, 3) := by decide +kernel
theorem dX4_areCut_21 : decode cX4_areCut 21 = .ok (.iload_n 2, 1) := by decide +kernel
theorem dX4_areCut_22 : decode cX4_areCut 22 = .ok (.iaload, 1) := by decide +kernel
theorem dX4_areCut_23 : decode cX4_areCut 23 = .ok (.invokevirtual 101, 3) := by decide +kernel
theorem dX4_areCut_26 : decode cX4_areCut 26 = .ok (.ifCond .eq 7, 3) := by decide +kernel
theorem dX4_areCut_29 : decode cX4_areCut 29 = .ok (.iconst 1, 1) := by decide +kernel
theorem dX4_areCut_30 : decode cX4_areCut 30 = .ok (.goto 4, 3) := by decide +kernel
theorem dX4_areCut_33 : decode cX4_areCut 33 = .ok (.iconst 0, 1) := by decide +kernel
theorem dX4_areCut_34 : decode cX4_areCut 34 = .ok (.istore_n 1, 1) := by decide +kernel
theorem dX4_areCut_35 : decode cX4_areCut 35 = .ok (.iinc 2 1, 3) := by decide +kernel
theorem dX4_areCut_38 : decode cX4_areCut 38 = .ok (.goto (-34), 3) := by decide +kernel
theorem dX4_areCut_41 : decode cX4_areCut 41 = .ok (.iload_n 1, 1) := by decide +kernel
theorem dX4_areCut_42 : decode cX4_areCut 42 = .ok (.ireturn, 1) := by decide +kernel
theorem dX4_holdFaults_0 : decode cX4_holdFaults 0 = .ok (.aload_n 0, 1) := by decide +kernel
theorem dX4_holdFaults_1 : decode cX4_holdFaults 1 = .ok (.iload_n 1, 1) := by decide +kernel
theorem dX4_holdFaults_2 : decode cX4_holdFaults 2 = .ok (.putfield 113, 3) := by decide +kernel
theorem dX4_holdFaults_5 : decode cX4_holdFaults 5 = .ok (.aload_n 0, 1) := by decide +kernel
theorem dX4_holdFaults_6 : decode cX4_holdFaults 6 = .ok (.iload_n 2, 1) := by decide +kernel
theorem dX4_holdFaults_7 : decode cX4_holdFaults 7 = .ok (.putfield 116, 3) := by decide +kernel
theorem dX4_holdFaults_10 : decode cX4_holdFaults 10 = .ok (.aload_n 0, 1) := by decide +kernel
theorem dX4_holdFaults_11 : decode cX4_holdFaults 11 = .ok (.iload_n 3, 1) := by decide +kernel
theorem dX4_holdFaults_12 : decode cX4_holdFaults 12 = .ok (.putfield 119, 3) := by decide +kernel
theorem dX4_holdFaults_15 : decode cX4_holdFaults 15 = .ok (.return_, 1) := by decide +kernel
theorem dX4_newMarks_0 : decode cX4_newMarks 0 = .ok (.iconst 0, 1) := by decide +kernel
theorem dX4_newMarks_1 : decode cX4_newMarks 1 = .ok (.istore_n 1, 1) := by decide +kernel
theorem dX4_newMarks_2 : decode cX4_newMarks 2 = .ok (.iload_n 1, 1) := by decide +kernel
theorem dX4_newMarks_3 : decode cX4_newMarks 3 = .ok (.sipush 1200, 3) := by decide +kernel
theorem dX4_newMarks_6 : decode cX4_newMarks 6 = .ok (.if_icmp .ge 23, 3) := by decide +kernel
theorem dX4_newMarks_9 : decode cX4_newMarks 9 = .ok (.aload_n 0, 1) := by decide +kernel
theorem dX4_newMarks_10 : decode cX4_newMarks 10 = .ok (.getfield 66, 3) := by decide +kernel
theorem dX4_newMarks_13 : decode cX4_newMarks 13 = .ok (.iload_n 1, 1) := by decide +kernel
theorem dX4_newMarks_14 : decode cX4_newMarks 14 = .ok (.iconst (-1), 1) := by decide +kernel
theorem dX4_newMarks_15 : decode cX4_newMarks 15 = .ok (.iastore, 1) := by decide +kernel
theorem dX4_newMarks_16 : decode cX4_newMarks 16 = .ok (.aload_n 0, 1) := by decide +kernel
theorem dX4_newMarks_17 : decode cX4_newMarks 17 = .ok (.getfield 69, 3) := by decide +kernel
theorem dX4_newMarks_20 : decode cX4_newMarks 20 = .ok (.iload_n 1, 1) := by decide +kernel
theorem dX4_newMarks_21 : decode cX4_newMarks 21 = .ok (.iconst (-1), 1) := by decide +kernel
theorem dX4_newMarks_22 : decode cX4_newMarks 22 = .ok (.iastore, 1) := by decide +kernel
theorem dX4_newMarks_23 : decode cX4_newMarks 23 = .ok (.iinc 1 1, 3) := by decide +kernel
theorem dX4_newMarks_26 : decode cX4_newMarks 26 = .ok (.goto (-24), 3) := by decide +kernel
theorem dX4_newMarks_29 : decode cX4_newMarks 29 = .ok (.return_, 1) := by decide +kernel
theorem dX4_write_0 : decode cX4_write 0 = .ok (.aload_n 0, 1) := by decide +kernel
theorem dX4_write_1 : decode cX4_write 1 = .ok (.iload_n 1, 1) := by decide +kernel
theorem dX4_write_2 : decode cX4_write 2 = .ok (.iload_n 2, 1) := by decide +kernel
theorem dX4_write_3 : decode cX4_write 3 = .ok (.invokevirtual 125, 3) := by decide +kernel
theorem dX4_write_6 : decode cX4_write 6 = .ok (.ifCond .ne 4, 3) := by decide +kernel
theorem dX4_write_9 : decode cX4_write 9 = .ok (.return_, 1) := by decide +kernel
theorem dX4_write_10 : decode cX4_write 10 = .ok (.aload_n 0, 1) := by decide +kernel
theorem dX4_write_11 : decode cX4_write 11 = .ok (.iload_n 1, 1) := by decide +kernel
theorem dX4_write_12 : decode cX4_write 12 = .ok (.iload_n 2, 1) := by decide +kernel
theorem dX4_write_13 : decode cX4_write 13 = .ok (.invokevirtual 129, 3) := by decide +kernel
theorem dX4_write_16 : decode cX4_write 16 = .ok (.istore_n 3, 1) := by decide +kernel
theorem dX4_write_17 : decode cX4_write 17 = .ok (.aload_n 0, 1) := by decide +kernel
theorem dX4_write_18 : decode cX4_write 18 = .ok (.iload_n 1, 1) := by decide +kernel
theorem dX4_write_19 : decode cX4_write 19 = .ok (.iload_n 2, 1) := by decide +kernel
theorem dX4_write_20 : decode cX4_write 20 = .ok (.invokevirtual 132, 3) := by decide +kernel
theorem dX4_write_23 : decode cX4_write 23 = .ok (.istore 4, 2) := by decide +kernel
theorem dX4_write_25 : decode cX4_write 25 = .ok (.aload_n 0, 1) := by decide +kernel
theorem dX4_write_26 : decode cX4_write 26 = .ok (.iload_n 3, 1) := by decide +kernel
theorem dX4_write_27 : decode cX4_write 27 = .ok (.iload 4, 2) := by decide +kernel
theorem dX4_write_29 : decode cX4_write 29 = .ok (.iload_n 1, 1) := by decide +kernel
theorem dX4_write_30 : decode cX4_write 30 = .ok (.iload_n 2, 1) := by decide +kernel
theorem dX4_write_31 : decode cX4_write 31 = .ok (.invokevirtual 135, 3) := by decide +kernel
theorem dX4_write_34 : decode cX4_write 34 = .ok (.iload_n 2, 1) := by decide +kernel
theorem dX4_write_35 : decode cX4_write 35 = .ok (.ifCond .le 155, 3) := by decide +kernel
theorem dX4_write_38 : decode cX4_write 38 = .ok (.aload_n 0, 1) := by decide +kernel
theorem dX4_write_39 : decode cX4_write 39 = .ok (.iload_n 1, 1) := by decide +kernel
theorem dX4_write_40 : decode cX4_write 40 = .ok (.iload_n 2, 1) := by decide +kernel
theorem dX4_write_41 : decode cX4_write 41 = .ok (.iconst 1, 1) := by decide +kernel
theorem dX4_write_42 : decode cX4_write 42 = .ok (.isub, 1) := by decide +kernel
theorem dX4_write_43 : decode cX4_write 43 = .ok (.invokevirtual 125, 3) := by decide +kernel
theorem dX4_write_46 : decode cX4_write 46 = .ok (.ifCond .eq 144, 3) := by decide +kernel
theorem dX4_write_49 : decode cX4_write 49 = .ok (.aload_n 0, 1) := by decide +kernel
theorem dX4_write_50 : decode cX4_write 50 = .ok (.iload_n 1, 1) := by decide +kernel
theorem dX4_write_51 : decode cX4_write 51 = .ok (.iload_n 2, 1) := by decide +kernel
theorem dX4_write_52 : decode cX4_write 52 = .ok (.iconst 1, 1) := by decide +kernel
theorem dX4_write_53 : decode cX4_write 53 = .ok (.isub, 1) := by decide +kernel
theorem dX4_write_54 : decode cX4_write 54 = .ok (.invokevirtual 129, 3) := by decide +kernel
theorem dX4_write_57 : decode cX4_write 57 = .ok (.istore 5, 2) := by decide +kernel
theorem dX4_write_59 : decode cX4_write 59 = .ok (.aload_n 0, 1) := by decide +kernel
theorem dX4_write_60 : decode cX4_write 60 = .ok (.iload_n 1, 1) := by decide +kernel
theorem dX4_write_61 : decode cX4_write 61 = .ok (.iload_n 2, 1) := by decide +kernel
theorem dX4_write_62 : decode cX4_write 62 = .ok (.iconst 1, 1) := by decide +kernel
theorem dX4_write_63 : decode cX4_write 63 = .ok (.isub, 1) := by decide +kernel
theorem dX4_write_64 : decode cX4_write 64 = .ok (.invokevirtual 132, 3) := by decide +kernel
theorem dX4_write_67 : decode cX4_write 67 = .ok (.istore 6, 2) := by decide +kernel
theorem dX4_write_69 : decode cX4_write 69 = .ok (.iload_n 3, 1) := by decide +kernel
theorem dX4_write_70 : decode cX4_write 70 = .ok (.iload 5, 2) := by decide +kernel
theorem dX4_write_72 : decode cX4_write 72 = .ok (.isub, 1) := by decide +kernel
theorem dX4_write_73 : decode cX4_write 73 = .ok (.istore 7, 2) := by decide +kernel
theorem dX4_write_75 : decode cX4_write 75 = .ok (.iload 4, 2) := by decide +kernel
theorem dX4_write_77 : decode cX4_write 77 = .ok (.iload 6, 2) := by decide +kernel
theorem dX4_write_79 : decode cX4_write 79 = .ok (.isub, 1) := by decide +kernel
theorem dX4_write_80 : decode cX4_write 80 = .ok (.istore 8, 2) := by decide +kernel
theorem dX4_write_82 : decode cX4_write 82 = .ok (.iload 7, 2) := by decide +kernel
theorem dX4_write_84 : decode cX4_write 84 = .ok (.ifCond .ge 9, 3) := by decide +kernel
theorem dX4_write_87 : decode cX4_write 87 = .ok (.iload 7, 2) := by decide +kernel
theorem dX4_write_89 : decode cX4_write 89 = .ok (.ineg, 1) := by decide +kernel
theorem dX4_write_90 : decode cX4_write 90 = .ok (.goto 5, 3) := by decide +kernel
theorem dX4_write_93 : decode cX4_write 93 = .ok (.iload 7, 2) := by decide +kernel
theorem dX4_write_95 : decode cX4_write 95 = .ok (.istore 9, 2) := by decide +kernel
theorem dX4_write_97 : decode cX4_write 97 = .ok (.iload 8, 2) := by decide +kernel
theorem dX4_write_99 : decode cX4_write 99 = .ok (.ifCond .ge 9, 3) := by decide +kernel
theorem dX4_write_102 : decode cX4_write 102 = .ok (.iload 8, 2) := by decide +kernel
theorem dX4_write_104 : decode cX4_write 104 = .ok (.ineg, 1) := by decide +kernel
theorem dX4_write_105 : decode cX4_write 105 = .ok (.goto 5, 3) := by decide +kernel
theorem dX4_write_108 : decode cX4_write 108 = .ok (.iload 8, 2) := by decide +kernel
theorem dX4_write_110 : decode cX4_write 110 = .ok (.istore 10, 2) := by decide +kernel
theorem dX4_write_112 : decode cX4_write 112 = .ok (.iload 9, 2) := by decide +kernel
theorem dX4_write_114 : decode cX4_write 114 = .ok (.iload 10, 2) := by decide +kernel
theorem dX4_write_116 : decode cX4_write 116 = .ok (.if_icmp .le 8, 3) := by decide +kernel
theorem dX4_write_119 : decode cX4_write 119 = .ok (.iload 9, 2) := by decide +kernel
theorem dX4_write_121 : decode cX4_write 121 = .ok (.goto 5, 3) := by decide +kernel
theorem dX4_write_124 : decode cX4_write 124 = .ok (.iload 10, 2) := by decide +kernel
theorem dX4_write_126 : decode cX4_write 126 = .ok (.istore 11, 2) := by decide +kernel
theorem dX4_write_128 : decode cX4_write 128 = .ok (.iconst 1, 1) := by decide +kernel
theorem dX4_write_129 : decode cX4_write 129 = .ok (.istore 12, 2) := by decide +kernel
theorem dX4_write_131 : decode cX4_write 131 = .ok (.iload 12, 2) := by decide +kernel
theorem dX4_write_133 : decode cX4_write 133 = .ok (.iload 11, 2) := by decide +kernel
theorem dX4_write_135 : decode cX4_write 135 = .ok (.if_icmp .ge 55, 3) := by decide +kernel
theorem dX4_write_138 : decode cX4_write 138 = .ok (.aload_n 0, 1) := by decide +kernel
theorem dX4_write_139 : decode cX4_write 139 = .ok (.iload 5, 2) := by decide +kernel
theorem dX4_write_141 : decode cX4_write 141 = .ok (.iconst 2, 1) := by decide +kernel
theorem dX4_write_142 : decode cX4_write 142 = .ok (.iload 12, 2) := by decide +kernel
theorem dX4_write_144 : decode cX4_write 144 = .ok (.imul, 1) := by decide +kernel
theorem dX4_write_145 : decode cX4_write 145 = .ok (.iload 7, 2) := by decide +kernel
theorem dX4_write_147 : decode cX4_write 147 = .ok (.imul, 1) := by decide +kernel
theorem dX4_write_148 : decode cX4_write 148 = .ok (.iload 11, 2) := by decide +kernel
theorem dX4_write_150 : decode cX4_write 150 = .ok (.iadd, 1) := by decide +kernel
theorem dX4_write_151 : decode cX4_write 151 = .ok (.iconst 2, 1) := by decide +kernel
theorem dX4_write_152 : decode cX4_write 152 = .ok (.iload 11, 2) := by decide +kernel
theorem dX4_write_154 : decode cX4_write 154 = .ok (.imul, 1) := by decide +kernel
theorem dX4_write_155 : decode cX4_write 155 = .ok (.invokestatic 139, 3) := by decide +kernel
theorem dX4_write_158 : decode cX4_write 158 = .ok (.iadd, 1) := by decide +kernel
theorem dX4_write_159 : decode cX4_write 159 = .ok (.iload 6, 2) := by decide +kernel
theorem dX4_write_161 : decode cX4_write 161 = .ok (.iconst 2, 1) := by decide +kernel
theorem dX4_write_162 : decode cX4_write 162 = .ok (.iload 12, 2) := by decide +kernel
theorem dX4_write_164 : decode cX4_write 164 = .ok (.imul, 1) := by decide +kernel
theorem dX4_write_165 : decode cX4_write 165 = .ok (.iload 8, 2) := by decide +kernel
theorem dX4_write_167 : decode cX4_write 167 = .ok (.imul, 1) := by decide +kernel
theorem dX4_write_168 : decode cX4_write 168 = .ok (.iload 11, 2) := by decide +kernel
theorem dX4_write_170 : decode cX4_write 170 = .ok (.iadd, 1) := by decide +kernel
theorem dX4_write_171 : decode cX4_write 171 = .ok (.iconst 2, 1) := by decide +kernel
theorem dX4_write_172 : decode cX4_write 172 = .ok (.iload 11, 2) := by decide +kernel
theorem dX4_write_174 : decode cX4_write 174 = .ok (.imul, 1) := by decide +kernel
theorem dX4_write_175 : decode cX4_write 175 = .ok (.invokestatic 139, 3) := by decide +kernel
theorem dX4_write_178 : decode cX4_write 178 = .ok (.iadd, 1) := by decide +kernel
theorem dX4_write_179 : decode cX4_write 179 = .ok (.iload_n 1, 1) := by decide +kernel
theorem dX4_write_180 : decode cX4_write 180 = .ok (.iload_n 2, 1) := by decide +kernel
theorem dX4_write_181 : decode cX4_write 181 = .ok (.invokevirtual 135, 3) := by decide +kernel
theorem dX4_write_184 : decode cX4_write 184 = .ok (.iinc 12 1, 3) := by decide +kernel
theorem dX4_write_187 : decode cX4_write 187 = .ok (.goto (-56), 3) := by decide +kernel
theorem dX4_write_190 : decode cX4_write 190 = .ok (.return_, 1) := by decide +kernel
theorem dX4_isDown_0 : decode cX4_isDown 0 = .ok (.aload_n 0, 1) := by decide +kernel
theorem dX4_isDown_1 : decode cX4_isDown 1 = .ok (.aload_n 0, 1) := by decide +kernel
theorem dX4_isDown_2 : decode cX4_isDown 2 = .ok (.getfield 27, 3) := by decide +kernel
theorem dX4_isDown_5 : decode cX4_isDown 5 = .ok (.aload_n 0, 1) := by decide +kernel
theorem dX4_isDown_6 : decode cX4_isDown 6 = .ok (.getfield 30, 3) := by decide +kernel
theorem dX4_isDown_9 : decode cX4_isDown 9 = .ok (.iload_n 1, 1) := by decide +kernel
theorem dX4_isDown_10 : decode cX4_isDown 10 = .ok (.iaload, 1) := by decide +kernel
theorem dX4_isDown_11 : decode cX4_isDown 11 = .ok (.iaload, 1) := by decide +kernel
theorem dX4_isDown_12 : decode cX4_isDown 12 = .ok (.iload_n 2, 1) := by decide +kernel
theorem dX4_isDown_13 : decode cX4_isDown 13 = .ok (.invokevirtual 122, 3) := by decide +kernel
theorem dX4_isDown_16 : decode cX4_isDown 16 = .ok (.ifCond .ne 7, 3) := by decide +kernel
theorem dX4_isDown_19 : decode cX4_isDown 19 = .ok (.iconst 1, 1) := by decide +kernel
theorem dX4_isDown_20 : decode cX4_isDown 20 = .ok (.goto 4, 3) := by decide +kernel
theorem dX4_isDown_23 : decode cX4_isDown 23 = .ok (.iconst 0, 1) := by decide +kernel
theorem dX4_isDown_24 : decode cX4_isDown 24 = .ok (.ireturn, 1) := by decide +kernel
theorem dX4_heightOf_0 : decode cX4_heightOf 0 = .ok (.aload_n 0, 1) := by decide +kernel
theorem dX4_heightOf_1 : decode cX4_heightOf 1 = .ok (.getfield 17, 3) := by decide +kernel
theorem dX4_heightOf_4 : decode cX4_heightOf 4 = .ok (.bipush 16, 2) := by decide +kernel
theorem dX4_heightOf_6 : decode cX4_heightOf 6 = .ok (.iload_n 1, 1) := by decide +kernel
theorem dX4_heightOf_7 : decode cX4_heightOf 7 = .ok (.imul, 1) := by decide +kernel
theorem dX4_heightOf_8 : decode cX4_heightOf 8 = .ok (.iload_n 2, 1) := by decide +kernel
theorem dX4_heightOf_9 : decode cX4_heightOf 9 = .ok (.iadd, 1) := by decide +kernel
theorem dX4_heightOf_10 : decode cX4_heightOf 10 = .ok (.iaload, 1) := by decide +kernel
theorem dX4_heightOf_11 : decode cX4_heightOf 11 = .ok (.istore_n 3, 1) := by decide +kernel
theorem dX4_heightOf_12 : decode cX4_heightOf 12 = .ok (.iload_n 1, 1) := by decide +kernel
theorem dX4_heightOf_13 : decode cX4_heightOf 13 = .ok (.aload_n 0, 1) := by decide +kernel
theorem dX4_heightOf_14 : decode cX4_heightOf 14 = .ok (.getfield 113, 3) := by decide +kernel
theorem dX4_heightOf_17 : decode cX4_heightOf 17 = .ok (.if_icmp .ne 13, 3) := by decide +kernel
theorem dX4_heightOf_20 : decode cX4_heightOf 20 = .ok (.iload_n 3, 1) := by decide +kernel
theorem dX4_heightOf_21 : decode cX4_heightOf 21 = .ok (.ifCond .le 9, 3) := by decide +kernel
theorem dX4_heightOf_24 : decode cX4_heightOf 24 = .ok (.iload_n 3, 1) := by decide +kernel
theorem dX4_heightOf_25 : decode cX4_heightOf 25 = .ok (.iconst 1, 1) := by decide +kernel
theorem dX4_heightOf_26 : decode cX4_heightOf 26 = .ok (.isub, 1) := by decide +kernel
theorem dX4_heightOf_27 : decode cX4_heightOf 27 = .ok (.goto 4, 3) := by decide +kernel
theorem dX4_heightOf_30 : decode cX4_heightOf 30 = .ok (.iload_n 3, 1) := by decide +kernel
theorem dX4_heightOf_31 : decode cX4_heightOf 31 = .ok (.ireturn, 1) := by decide +kernel
theorem dX4_xAt_0 : decode cX4_xAt 0 = .ok (.iload_n 1, 1) := by decide +kernel
theorem dX4_xAt_1 : decode cX4_xAt 1 = .ok (.aload_n 0, 1) := by decide +kernel
theorem dX4_xAt_2 : decode cX4_xAt 2 = .ok (.getfield 33, 3) := by decide +kernel
theorem dX4_xAt_5 : decode cX4_xAt 5 = .ok (.imul, 1) := by decide +kernel
theorem dX4_xAt_6 : decode cX4_xAt 6 = .ok (.aload_n 0, 1) := by decide +kernel
theorem dX4_xAt_7 : decode cX4_xAt 7 = .ok (.aload_n 0, 1) := by decide +kernel
theorem dX4_xAt_8 : decode cX4_xAt 8 = .ok (.getfield 21, 3) := by decide +kernel
theorem dX4_xAt_11 : decode cX4_xAt 11 = .ok (.aload_n 0, 1) := by decide +kernel
theorem dX4_xAt_12 : decode cX4_xAt 12 = .ok (.getfield 30, 3) := by decide +kernel
theorem dX4_xAt_15 : decode cX4_xAt 15 = .ok (.iload_n 1, 1) := by decide +kernel
theorem dX4_xAt_16 : decode cX4_xAt 16 = .ok (.iaload, 1) := by decide +kernel
theorem dX4_xAt_17 : decode cX4_xAt 17 = .ok (.iaload, 1) := by decide +kernel
theorem dX4_xAt_18 : decode cX4_xAt 18 = .ok (.iload_n 2, 1) := by decide +kernel
theorem dX4_xAt_19 : decode cX4_xAt 19 = .ok (.invokevirtual 122, 3) := by decide +kernel
theorem dX4_xAt_22 : decode cX4_xAt 22 = .ok (.iadd, 1) := by decide +kernel
theorem dX4_xAt_23 : decode cX4_xAt 23 = .ok (.aload_n 0, 1) := by decide +kernel
theorem dX4_xAt_24 : decode cX4_xAt 24 = .ok (.getfield 119, 3) := by decide +kernel
theorem dX4_xAt_27 : decode cX4_xAt 27 = .ok (.ifCond .ne 7, 3) := by decide +kernel
theorem dX4_xAt_30 : decode cX4_xAt 30 = .ok (.iconst 1, 1) := by decide +kernel
theorem dX4_xAt_31 : decode cX4_xAt 31 = .ok (.goto 4, 3) := by decide +kernel
theorem dX4_xAt_34 : decode cX4_xAt 34 = .ok (.iconst 0, 1) := by decide +kernel
theorem dX4_xAt_35 : decode cX4_xAt 35 = .ok (.iadd, 1) := by decide +kernel
theorem dX4_xAt_36 : decode cX4_xAt 36 = .ok (.ireturn, 1) := by decide +kernel
theorem dX4_yAt_0 : decode cX4_yAt 0 = .ok (.aload_n 0, 1) := by decide +kernel
theorem dX4_yAt_1 : decode cX4_yAt 1 = .ok (.aload_n 0, 1) := by decide +kernel
theorem dX4_yAt_2 : decode cX4_yAt 2 = .ok (.getfield 24, 3) := by decide +kernel
theorem dX4_yAt_5 : decode cX4_yAt 5 = .ok (.aload_n 0, 1) := by decide +kernel
theorem dX4_yAt_6 : decode cX4_yAt 6 = .ok (.getfield 30, 3) := by decide +kernel
theorem dX4_yAt_9 : decode cX4_yAt 9 = .ok (.iload_n 1, 1) := by decide +kernel
theorem dX4_yAt_10 : decode cX4_yAt 10 = .ok (.iaload, 1) := by decide +kernel
theorem dX4_yAt_11 : decode cX4_yAt 11 = .ok (.iaload, 1) := by decide +kernel
theorem dX4_yAt_12 : decode cX4_yAt 12 = .ok (.iload_n 2, 1) := by decide +kernel
theorem dX4_yAt_13 : decode cX4_yAt 13 = .ok (.invokevirtual 122, 3) := by decide +kernel
theorem dX4_yAt_16 : decode cX4_yAt 16 = .ok (.aload_n 0, 1) := by decide +kernel
theorem dX4_yAt_17 : decode cX4_yAt 17 = .ok (.getfield 119, 3) := by decide +kernel
theorem dX4_yAt_20 : decode cX4_yAt 20 = .ok (.iconst 1, 1) := by decide +kernel
theorem dX4_yAt_21 : decode cX4_yAt 21 = .ok (.if_icmp .ne 7, 3) := by decide +kernel
theorem dX4_yAt_24 : decode cX4_yAt 24 = .ok (.iconst 1, 1) := by decide +kernel
theorem dX4_yAt_25 : decode cX4_yAt 25 = .ok (.goto 4, 3) := by decide +kernel
theorem dX4_yAt_28 : decode cX4_yAt 28 = .ok (.iconst 0, 1) := by decide +kernel
theorem dX4_yAt_29 : decode cX4_yAt 29 = .ok (.iadd, 1) := by decide +kernel
theorem dX4_yAt_30 : decode cX4_yAt 30 = .ok (.istore_n 3, 1) := by decide +kernel
theorem dX4_yAt_31 : decode cX4_yAt 31 = .ok (.iload_n 3, 1) := by decide +kernel
theorem dX4_yAt_32 : decode cX4_yAt 32 = .ok (.bipush 9, 2) := by decide +kernel
theorem dX4_yAt_34 : decode cX4_yAt 34 = .ok (.if_icmp .le 8, 3) := by decide +kernel
theorem dX4_yAt_37 : decode cX4_yAt 37 = .ok (.bipush 9, 2) := by decide +kernel
theorem dX4_yAt_39 : decode cX4_yAt 39 = .ok (.goto 4, 3) := by decide +kernel
theorem dX4_yAt_42 : decode cX4_yAt 42 = .ok (.iload_n 3, 1) := by decide +kernel
theorem dX4_yAt_43 : decode cX4_yAt 43 = .ok (.ireturn, 1) := by decide +kernel
theorem dX4_mark_0 : decode cX4_mark 0 = .ok (.bipush 10, 2) := by decide +kernel
theorem dX4_mark_2 : decode cX4_mark 2 = .ok (.iload_n 1, 1) := by decide +kernel
theorem dX4_mark_3 : decode cX4_mark 3 = .ok (.imul, 1) := by decide +kernel
theorem dX4_mark_4 : decode cX4_mark 4 = .ok (.iload_n 2, 1) := by decide +kernel
theorem dX4_mark_5 : decode cX4_mark 5 = .ok (.iadd, 1) := by decide +kernel
theorem dX4_mark_6 : decode cX4_mark 6 = .ok (.istore 5, 2) := by decide +kernel
theorem dX4_mark_8 : decode cX4_mark 8 = .ok (.aload_n 0, 1) := by decide +kernel
theorem dX4_mark_9 : decode cX4_mark 9 = .ok (.getfield 66, 3) := by decide +kernel
theorem dX4_mark_12 : decode cX4_mark 12 = .ok (.iload 5, 2) := by decide +kernel
theorem dX4_mark_14 : decode cX4_mark 14 = .ok (.iaload, 1) := by decide +kernel
theorem dX4_mark_15 : decode cX4_mark 15 = .ok (.ifCond .ge 20, 3) := by decide +kernel
theorem dX4_mark_18 : decode cX4_mark 18 = .ok (.aload_n 0, 1) := by decide +kernel
theorem dX4_mark_19 : decode cX4_mark 19 = .ok (.getfield 66, 3) := by decide +kernel
theorem dX4_mark_22 : decode cX4_mark 22 = .ok (.iload 5, 2) := by decide +kernel
theorem dX4_mark_24 : decode cX4_mark 24 = .ok (.iload_n 3, 1) := by decide +kernel
theorem dX4_mark_25 : decode cX4_mark 25 = .ok (.iastore, 1) := by decide +kernel
theorem dX4_mark_26 : decode cX4_mark 26 = .ok (.aload_n 0, 1) := by decide +kernel
theorem dX4_mark_27 : decode cX4_mark 27 = .ok (.getfield 69, 3) := by decide +kernel
theorem dX4_mark_30 : decode cX4_mark 30 = .ok (.iload 5, 2) := by decide +kernel
theorem dX4_mark_32 : decode cX4_mark 32 = .ok (.iload 4, 2) := by decide +kernel
theorem dX4_mark_34 : decode cX4_mark 34 = .ok (.iastore, 1) := by decide +kernel
theorem dX4_mark_35 : decode cX4_mark 35 = .ok (.return_, 1) := by decide +kernel
theorem dX4_lower_0 : decode cX4_lower 0 = .ok (.iload_n 0, 1) := by decide +kernel
theorem dX4_lower_1 : decode cX4_lower 1 = .ok (.iload_n 1, 1) := by decide +kernel
theorem dX4_lower_2 : decode cX4_lower 2 = .ok (.idiv, 1) := by decide +kernel
theorem dX4_lower_3 : decode cX4_lower 3 = .ok (.istore_n 2, 1) := by decide +kernel
theorem dX4_lower_4 : decode cX4_lower 4 = .ok (.iload_n 0, 1) := by decide +kernel
theorem dX4_lower_5 : decode cX4_lower 5 = .ok (.iload_n 1, 1) := by decide +kernel
theorem dX4_lower_6 : decode cX4_lower 6 = .ok (.irem, 1) := by decide +kernel
theorem dX4_lower_7 : decode cX4_lower 7 = .ok (.ifCond .ge 9, 3) := by decide +kernel
theorem dX4_lower_10 : decode cX4_lower 10 = .ok (.iload_n 2, 1) := by decide +kernel
theorem dX4_lower_11 : decode cX4_lower 11 = .ok (.iconst 1, 1) := by decide +kernel
theorem dX4_lower_12 : decode cX4_lower 12 = .ok (.isub, 1) := by decide +kernel
theorem dX4_lower_13 : decode cX4_lower 13 = .ok (.goto 4, 3) := by decide +kernel
theorem dX4_lower_16 : decode cX4_lower 16 = .ok (.iload_n 2, 1) := by decide +kernel
theorem dX4_lower_17 : decode cX4_lower 17 = .ok (.ireturn, 1) := by decide +kernel
theorem dX4_marked_0 : decode cX4_marked 0 = .ok (.iload_n 1, 1) := by decide +kernel
theorem dX4_marked_1 : decode cX4_marked 1 = .ok (.iload_n 2, 1) := by decide +kernel
theorem dX4_marked_2 : decode cX4_marked 2 = .ok (.invokestatic 172, 3) := by decide +kernel
theorem dX4_marked_5 : decode cX4_marked 5 = .ok (.ifCond .eq 25, 3) := by decide +kernel
theorem dX4_marked_8 : decode cX4_marked 8 = .ok (.aload_n 0, 1) := by decide +kernel
theorem dX4_marked_9 : decode cX4_marked 9 = .ok (.getfield 39, 3) := by decide +kernel
theorem dX4_marked_12 : decode cX4_marked 12 = .ok (.bipush 10, 2) := by decide +kernel
theorem dX4_marked_14 : decode cX4_marked 14 = .ok (.iload_n 1, 1) := by decide +kernel
theorem dX4_marked_15 : decode cX4_marked 15 = .ok (.imul, 1) := by decide +kernel
theorem dX4_marked_16 : decode cX4_marked 16 = .ok (.iload_n 2, 1) := by decide +kernel
theorem dX4_marked_17 : decode cX4_marked 17 = .ok (.iadd, 1) := by decide +kernel
theorem dX4_marked_18 : decode cX4_marked 18 = .ok (.iaload, 1) := by decide +kernel
theorem dX4_marked_19 : decode cX4_marked 19 = .ok (.ifCond .ge 7, 3) := by decide +kernel
theorem dX4_marked_22 : decode cX4_marked 22 = .ok (.iconst 0, 1) := by decide +kernel
theorem dX4_marked_23 : decode cX4_marked 23 = .ok (.goto 12, 3) := by decide +kernel
theorem dX4_marked_26 : decode cX4_marked 26 = .ok (.iconst 1, 1) := by decide +kernel
theorem dX4_marked_27 : decode cX4_marked 27 = .ok (.goto 8, 3) := by decide +kernel
theorem dX4_marked_30 : decode cX4_marked 30 = .ok (.aload_n 0, 1) := by decide +kernel
theorem dX4_marked_31 : decode cX4_marked 31 = .ok (.iconst (-1), 1) := by decide +kernel
theorem dX4_marked_32 : decode cX4_marked 32 = .ok (.invokevirtual 79, 3) := by decide +kernel
theorem dX4_marked_35 : decode cX4_marked 35 = .ok (.ireturn, 1) := by decide +kernel
theorem dX4_isCell_0 : decode cX4_isCell 0 = .ok (.iload_n 0, 1) := by decide +kernel
theorem dX4_isCell_1 : decode cX4_isCell 1 = .ok (.iconst 0, 1) := by decide +kernel
theorem dX4_isCell_2 : decode cX4_isCell 2 = .ok (.bipush 119, 2) := by decide +kernel
theorem dX4_isCell_4 : decode cX4_isCell 4 = .ok (.invokestatic 75, 3) := by decide +kernel
theorem dX4_isCell_7 : decode cX4_isCell 7 = .ok (.ifCond .eq 17, 3) := by decide +kernel
theorem dX4_isCell_10 : decode cX4_isCell 10 = .ok (.iload_n 1, 1) := by decide +kernel
theorem dX4_isCell_11 : decode cX4_isCell 11 = .ok (.iconst 0, 1) := by decide +kernel
theorem dX4_isCell_12 : decode cX4_isCell 12 = .ok (.bipush 9, 2) := by decide +kernel
theorem dX4_isCell_14 : decode cX4_isCell 14 = .ok (.invokestatic 75, 3) := by decide +kernel
theorem dX4_isCell_17 : decode cX4_isCell 17 = .ok (.ifCond .eq 7, 3) := by decide +kernel
theorem dX4_isCell_20 : decode cX4_isCell 20 = .ok (.iconst 1, 1) := by decide +kernel
theorem dX4_isCell_21 : decode cX4_isCell 21 = .ok (.goto 4, 3) := by decide +kernel
theorem dX4_isCell_24 : decode cX4_isCell 24 = .ok (.iconst 0, 1) := by decide +kernel
theorem dX4_isCell_25 : decode cX4_isCell 25 = .ok (.ireturn, 1) := by decide +kernel
theorem dX4_first_0 : decode cX4_first 0 = .ok (.iload_n 1, 1) := by decide +kernel
theorem dX4_first_1 : decode cX4_first 1 = .ok (.iload_n 2, 1) := by decide +kernel
theorem dX4_first_2 : decode cX4_first 2 = .ok (.invokestatic 172, 3) := by decide +kernel
theorem dX4_first_5 : decode cX4_first 5 = .ok (.ifCond .ne 9, 3) := by decide +kernel
theorem dX4_first_8 : decode cX4_first 8 = .ok (.aload_n 0, 1) := by decide +kernel
theorem dX4_first_9 : decode cX4_first 9 = .ok (.iconst (-1), 1) := by decide +kernel
theorem dX4_first_10 : decode cX4_first 10 = .ok (.invokevirtual 79, 3) := by decide +kernel
theorem dX4_first_13 : decode cX4_first 13 = .ok (.ireturn, 1) := by decide +kernel
theorem dX4_first_14 : decode cX4_first 14 = .ok (.iload_n 3, 1) := by decide +kernel
theorem dX4_first_15 : decode cX4_first 15 = .ok (.iconst 0, 1) := by decide +kernel
theorem dX4_first_16 : decode cX4_first 16 = .ok (.iconst 1, 1) := by decide +kernel
theorem dX4_first_17 : decode cX4_first 17 = .ok (.invokestatic 75, 3) := by decide +kernel
theorem dX4_first_20 : decode cX4_first 20 = .ok (.ifCond .ne 10, 3) := by decide +kernel
theorem dX4_first_23 : decode cX4_first 23 = .ok (.aload_n 0, 1) := by decide +kernel
theorem dX4_first_24 : decode cX4_first 24 = .ok (.bipush (-2), 2) := by decide +kernel
theorem dX4_first_26 : decode cX4_first 26 = .ok (.invokevirtual 79, 3) := by decide +kernel
theorem dX4_first_29 : decode cX4_first 29 = .ok (.ireturn, 1) := by decide +kernel
theorem dX4_first_30 : decode cX4_first 30 = .ok (.bipush 10, 2) := by decide +kernel
theorem dX4_first_32 : decode cX4_first 32 = .ok (.iload_n 1, 1) := by decide +kernel
theorem dX4_first_33 : decode cX4_first 33 = .ok (.imul, 1) := by decide +kernel
theorem dX4_first_34 : decode cX4_first 34 = .ok (.iload_n 2, 1) := by decide +kernel
theorem dX4_first_35 : decode cX4_first 35 = .ok (.iadd, 1) := by decide +kernel
theorem dX4_first_36 : decode cX4_first 36 = .ok (.istore 4, 2) := by decide +kernel
theorem dX4_first_38 : decode cX4_first 38 = .ok (.aload_n 0, 1) := by decide +kernel
theorem dX4_first_39 : decode cX4_first 39 = .ok (.getfield 39, 3) := by decide +kernel
theorem dX4_first_42 : decode cX4_first 42 = .ok (.iload 4, 2) := by decide +kernel
theorem dX4_first_44 : decode cX4_first 44 = .ok (.iaload, 1) := by decide +kernel
theorem dX4_first_45 : decode cX4_first 45 = .ok (.ifCond .ge 8, 3) := by decide +kernel
theorem dX4_first_48 : decode cX4_first 48 = .ok (.bipush (-9), 2) := by decide +kernel
theorem dX4_first_50 : decode cX4_first 50 = .ok (.goto 24, 3) := by decide +kernel
theorem dX4_first_53 : decode cX4_first 53 = .ok (.iload_n 3, 1) := by decide +kernel
theorem dX4_first_54 : decode cX4_first 54 = .ok (.ifCond .ne 13, 3) := by decide +kernel
theorem dX4_first_57 : decode cX4_first 57 = .ok (.aload_n 0, 1) := by decide +kernel
theorem dX4_first_58 : decode cX4_first 58 = .ok (.getfield 39, 3) := by decide +kernel
theorem dX4_first_61 : decode cX4_first 61 = .ok (.iload 4, 2) := by decide +kernel
theorem dX4_first_63 : decode cX4_first 63 = .ok (.iaload, 1) := by decide +kernel
theorem dX4_first_64 : decode cX4_first 64 = .ok (.goto 10, 3) := by decide +kernel
theorem dX4_first_67 : decode cX4_first 67 = .ok (.aload_n 0, 1) := by decide +kernel
theorem dX4_first_68 : decode cX4_first 68 = .ok (.getfield 42, 3) := by decide +kernel
theorem dX4_first_71 : decode cX4_first 71 = .ok (.iload 4, 2) := by decide +kernel
theorem dX4_first_73 : decode cX4_first 73 = .ok (.iaload, 1) := by decide +kernel
theorem dX4_first_74 : decode cX4_first 74 = .ok (.ireturn, 1) := by decide +kernel
theorem dX4_marks_0 : decode cX4_marks 0 = .ok (.iconst 0, 1) := by decide +kernel
theorem dX4_marks_1 : decode cX4_marks 1 = .ok (.istore_n 1, 1) := by decide +kernel
theorem dX4_marks_2 : decode cX4_marks 2 = .ok (.iconst 0, 1) := by decide +kernel
theorem dX4_marks_3 : decode cX4_marks 3 = .ok (.istore_n 2, 1) := by decide +kernel
theorem dX4_marks_4 : decode cX4_marks 4 = .ok (.iload_n 2, 1) := by decide +kernel
theorem dX4_marks_5 : decode cX4_marks 5 = .ok (.sipush 1200, 3) := by decide +kernel
theorem dX4_marks_8 : decode cX4_marks 8 = .ok (.if_icmp .ge 26, 3) := by decide +kernel
theorem dX4_marks_11 : decode cX4_marks 11 = .ok (.iload_n 1, 1) := by decide +kernel
theorem dX4_marks_12 : decode cX4_marks 12 = .ok (.aload_n 0, 1) := by decide +kernel
theorem dX4_marks_13 : decode cX4_marks 13 = .ok (.getfield 39, 3) := by decide +kernel
theorem dX4_marks_16 : decode cX4_marks 16 = .ok (.iload_n 2, 1) := by decide +kernel
theorem dX4_marks_17 : decode cX4_marks 17 = .ok (.iaload, 1) := by decide +kernel
theorem dX4_marks_18 : decode cX4_marks 18 = .ok (.ifCond .ge 7, 3) := by decide +kernel
theorem dX4_marks_21 : decode cX4_marks 21 = .ok (.iconst 0, 1) := by decide +kernel
theorem dX4_marks_22 : decode cX4_marks 22 = .ok (.goto 4, 3) := by decide +kernel
theorem dX4_marks_25 : decode cX4_marks 25 = .ok (.iconst 1, 1) := by decide +kernel
theorem dX4_marks_26 : decode cX4_marks 26 = .ok (.iadd, 1) := by decide +kernel
theorem dX4_marks_27 : decode cX4_marks 27 = .ok (.istore_n 1, 1) := by decide +kernel
theorem dX4_marks_28 : decode cX4_marks 28 = .ok (.iinc 2 1, 3) := by decide +kernel
theorem dX4_marks_31 : decode cX4_marks 31 = .ok (.goto (-27), 3) := by decide +kernel
theorem dX4_marks_34 : decode cX4_marks 34 = .ok (.iload_n 1, 1) := by decide +kernel
theorem dX4_marks_35 : decode cX4_marks 35 = .ok (.ireturn, 1) := by decide +kernel
theorem dX4_see_0 : decode cX4_see 0 = .ok (.iload_n 1, 1) := by decide +kernel
theorem dX4_see_1 : decode cX4_see 1 = .ok (.iload_n 2, 1) := by decide +kernel
theorem dX4_see_2 : decode cX4_see 2 = .ok (.invokestatic 172, 3) := by decide +kernel
theorem dX4_see_5 : decode cX4_see 5 = .ok (.ifCond .ne 9, 3) := by decide +kernel
theorem dX4_see_8 : decode cX4_see 8 = .ok (.aload_n 0, 1) := by decide +kernel
theorem dX4_see_9 : decode cX4_see 9 = .ok (.iconst (-1), 1) := by decide +kernel
theorem dX4_see_10 : decode cX4_see 10 = .ok (.invokevirtual 79, 3) := by decide +kernel
theorem dX4_see_13 : decode cX4_see 13 = .ok (.ireturn, 1) := by decide +kernel
theorem dX4_see_14 : decode cX4_see 14 = .ok (.bipush 10, 2) := by decide +kernel
theorem dX4_see_16 : decode cX4_see 16 = .ok (.iload_n 1, 1) := by decide +kernel
theorem dX4_see_17 : decode cX4_see 17 = .ok (.imul, 1) := by decide +kernel
theorem dX4_see_18 : decode cX4_see 18 = .ok (.iload_n 2, 1) := by decide +kernel
theorem dX4_see_19 : decode cX4_see 19 = .ok (.iadd, 1) := by decide +kernel
theorem dX4_see_20 : decode cX4_see 20 = .ok (.istore 4, 2) := by decide +kernel
theorem dX4_see_22 : decode cX4_see 22 = .ok (.aload_n 0, 1) := by decide +kernel
theorem dX4_see_23 : decode cX4_see 23 = .ok (.getfield 39, 3) := by decide +kernel
theorem dX4_see_26 : decode cX4_see 26 = .ok (.iload 4, 2) := by decide +kernel
theorem dX4_see_28 : decode cX4_see 28 = .ok (.iaload, 1) := by decide +kernel
theorem dX4_see_29 : decode cX4_see 29 = .ok (.ifCond .lt 7, 3) := by decide +kernel
theorem dX4_see_32 : decode cX4_see 32 = .ok (.iconst 1, 1) := by decide +kernel
theorem dX4_see_33 : decode cX4_see 33 = .ok (.goto 4, 3) := by decide +kernel
theorem dX4_see_36 : decode cX4_see 36 = .ok (.iconst 0, 1) := by decide +kernel
theorem dX4_see_37 : decode cX4_see 37 = .ok (.istore 5, 2) := by decide +kernel
theorem dX4_see_39 : decode cX4_see 39 = .ok (.iload 5, 2) := by decide +kernel
theorem dX4_see_41 : decode cX4_see 41 = .ok (.iload_n 3, 1) := by decide +kernel
theorem dX4_see_42 : decode cX4_see 42 = .ok (.if_icmp .ne 5, 3) := by decide +kernel
theorem dX4_see_45 : decode cX4_see 45 = .ok (.iconst 0, 1) := by decide +kernel
theorem dX4_see_46 : decode cX4_see 46 = .ok (.ireturn, 1) := by decide +kernel
theorem dX4_see_47 : decode cX4_see 47 = .ok (.aload_n 0, 1) := by decide +kernel
theorem dX4_see_48 : decode cX4_see 48 = .ok (.getfield 39, 3) := by decide +kernel
theorem dX4_see_51 : decode cX4_see 51 = .ok (.iload 4, 2) := by decide +kernel
theorem dX4_see_53 : decode cX4_see 53 = .ok (.iload_n 3, 1) := by decide +kernel
theorem dX4_see_54 : decode cX4_see 54 = .ok (.ifCond .eq 8, 3) := by decide +kernel
theorem dX4_see_57 : decode cX4_see 57 = .ok (.bipush 99, 2) := by decide +kernel
theorem dX4_see_59 : decode cX4_see 59 = .ok (.goto 4, 3) := by decide +kernel
theorem dX4_see_62 : decode cX4_see 62 = .ok (.iconst (-1), 1) := by decide +kernel
theorem dX4_see_63 : decode cX4_see 63 = .ok (.iastore, 1) := by decide +kernel
theorem dX4_see_64 : decode cX4_see 64 = .ok (.aload_n 0, 1) := by decide +kernel
theorem dX4_see_65 : decode cX4_see 65 = .ok (.getfield 42, 3) := by decide +kernel
theorem dX4_see_68 : decode cX4_see 68 = .ok (.iload 4, 2) := by decide +kernel
theorem dX4_see_70 : decode cX4_see 70 = .ok (.iload_n 3, 1) := by decide +kernel
theorem dX4_see_71 : decode cX4_see 71 = .ok (.ifCond .eq 8, 3) := by decide +kernel
theorem dX4_see_74 : decode cX4_see 74 = .ok (.bipush 99, 2) := by decide +kernel
theorem dX4_see_76 : decode cX4_see 76 = .ok (.goto 4, 3) := by decide +kernel
theorem dX4_see_79 : decode cX4_see 79 = .ok (.iconst (-1), 1) := by decide +kernel
theorem dX4_see_80 : decode cX4_see 80 = .ok (.iastore, 1) := by decide +kernel
theorem dX4_see_81 : decode cX4_see 81 = .ok (.iconst 1, 1) := by decide +kernel
theorem dX4_see_82 : decode cX4_see 82 = .ok (.ireturn, 1) := by decide +kernel
theorem dX4_fault_0 : decode cX4_fault 0 = .ok (.iload_n 1, 1) := by decide +kernel
theorem dX4_fault_1 : decode cX4_fault 1 = .ok (.iconst 1, 1) := by decide +kernel
theorem dX4_fault_2 : decode cX4_fault 2 = .ok (.iconst 3, 1) := by decide +kernel
theorem dX4_fault_3 : decode cX4_fault 3 = .ok (.invokestatic 75, 3) := by decide +kernel
theorem dX4_fault_6 : decode cX4_fault 6 = .ok (.ifCond .ne 10, 3) := by decide +kernel
theorem dX4_fault_9 : decode cX4_fault 9 = .ok (.aload_n 0, 1) := by decide +kernel
theorem dX4_fault_10 : decode cX4_fault 10 = .ok (.bipush (-2), 2) := by decide +kernel
theorem dX4_fault_12 : decode cX4_fault 12 = .ok (.invokevirtual 79, 3) := by decide +kernel
theorem dX4_fault_15 : decode cX4_fault 15 = .ok (.ireturn, 1) := by decide +kernel
theorem dX4_fault_16 : decode cX4_fault 16 = .ok (.iload_n 2, 1) := by decide +kernel
theorem dX4_fault_17 : decode cX4_fault 17 = .ok (.iconst 0, 1) := by decide +kernel
theorem dX4_fault_18 : decode cX4_fault 18 = .ok (.iload_n 1, 1) := by decide +kernel
theorem dX4_fault_19 : decode cX4_fault 19 = .ok (.iconst 1, 1) := by decide +kernel
theorem dX4_fault_20 : decode cX4_fault 20 = .ok (.if_icmp .ne 8, 3) := by decide +kernel
theorem dX4_fault_23 : decode cX4_fault 23 = .ok (.bipush 11, 2) := by decide +kernel
theorem dX4_fault_25 : decode cX4_fault 25 = .ok (.goto 18, 3) := by decide +kernel
theorem dX4_fault_28 : decode cX4_fault 28 = .ok (.iload_n 1, 1) := by decide +kernel
theorem dX4_fault_29 : decode cX4_fault 29 = .ok (.iconst 2, 1) := by decide +kernel
theorem dX4_fault_30 : decode cX4_fault 30 = .ok (.if_icmp .ne 12, 3) := by decide +kernel
theorem dX4_fault_33 : decode cX4_fault 33 = .ok (.aload_n 0, 1) := by decide +kernel
theorem dX4_fault_34 : decode cX4_fault 34 = .ok (.getfield 104, 3) := by decide +kernel
theorem dX4_fault_37 : decode cX4_fault 37 = .ok (.iconst 1, 1) := by decide +kernel
