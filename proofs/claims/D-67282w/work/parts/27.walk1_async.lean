set_option maxRecDepth 100000
theorem dX1_async_0 : decode cX1_async 0 = .ok (.aload_n 0, 1) := by decide +kernel
theorem dX1_async_1 : decode cX1_async 1 = .ok (.iload_n 1, 1) := by decide +kernel
theorem dX1_async_2 : decode cX1_async 2 = .ok (.invokevirtual 286, 3) := by decide +kernel
theorem dX1_async_5 : decode cX1_async 5 = .ok (.invokestatic 275, 3) := by decide +kernel
theorem dX1_async_8 : decode cX1_async 8 = .ok (.aload_n 0, 1) := by decide +kernel
theorem dX1_async_9 : decode cX1_async 9 = .ok (.iload_n 2, 1) := by decide +kernel
theorem dX1_async_10 : decode cX1_async 10 = .ok (.invokevirtual 292, 3) := by decide +kernel
theorem dX1_async_13 : decode cX1_async 13 = .ok (.istore_n 3, 1) := by decide +kernel
theorem dX1_async_14 : decode cX1_async 14 = .ok (.aload_n 0, 1) := by decide +kernel
theorem dX1_async_15 : decode cX1_async 15 = .ok (.bipush 8, 2) := by decide +kernel
theorem dX1_async_17 : decode cX1_async 17 = .ok (.invokevirtual 282, 3) := by decide +kernel
theorem dX1_async_20 : decode cX1_async 20 = .ok (.aload_n 0, 1) := by decide +kernel
theorem dX1_async_21 : decode cX1_async 21 = .ok (.getfield 295, 3) := by decide +kernel
theorem dX1_async_24 : decode cX1_async 24 = .ok (.istore 4, 2) := by decide +kernel
theorem dX1_async_26 : decode cX1_async 26 = .ok (.aload_n 0, 1) := by decide +kernel
theorem dX1_async_27 : decode cX1_async 27 = .ok (.iconst 0, 1) := by decide +kernel
theorem dX1_async_28 : decode cX1_async 28 = .ok (.putfield 295, 3) := by decide +kernel
theorem dX1_async_31 : decode cX1_async 31 = .ok (.aload_n 0, 1) := by decide +kernel
theorem dX1_async_32 : decode cX1_async 32 = .ok (.invokevirtual 204, 3) := by decide +kernel
theorem dX1_async_35 : decode cX1_async 35 = .ok (.istore 5, 2) := by decide +kernel
theorem dX1_async_37 : decode cX1_async 37 = .ok (.aload_n 0, 1) := by decide +kernel
theorem dX1_async_38 : decode cX1_async 38 = .ok (.iload 5, 2) := by decide +kernel
theorem dX1_async_40 : decode cX1_async 40 = .ok (.invokevirtual 207, 3) := by decide +kernel
theorem dX1_async_43 : decode cX1_async 43 = .ok (.istore 6, 2) := by decide +kernel
theorem dX1_async_45 : decode cX1_async 45 = .ok (.aload_n 0, 1) := by decide +kernel
theorem dX1_async_46 : decode cX1_async 46 = .ok (.getfield 298, 3) := by decide +kernel
theorem dX1_async_49 : decode cX1_async 49 = .ok (.aload_n 0, 1) := by decide +kernel
theorem dX1_async_50 : decode cX1_async 50 = .ok (.getfield 111, 3) := by decide +kernel
theorem dX1_async_53 : decode cX1_async 53 = .ok (.arraylength, 1) := by decide +kernel
theorem dX1_async_54 : decode cX1_async 54 = .ok (.if_icmp .ne 89, 3) := by decide +kernel
theorem dX1_async_57 : decode cX1_async 57 = .ok (.iconst 2, 1) := by decide +kernel
theorem dX1_async_58 : decode cX1_async 58 = .ok (.aload_n 0, 1) := by decide +kernel
theorem dX1_async_59 : decode cX1_async 59 = .ok (.getfield 298, 3) := by decide +kernel
theorem dX1_async_62 : decode cX1_async 62 = .ok (.imul, 1) := by decide +kernel
theorem dX1_async_63 : decode cX1_async 63 = .ok (.istore 7, 2) := by decide +kernel
theorem dX1_async_65 : decode cX1_async 65 = .ok (.aload_n 0, 1) := by decide +kernel
theorem dX1_async_66 : decode cX1_async 66 = .ok (.aload_n 0, 1) := by decide +kernel
theorem dX1_async_67 : decode cX1_async 67 = .ok (.getfield 111, 3) := by decide +kernel
theorem dX1_async_70 : decode cX1_async 70 = .ok (.iload 7, 2) := by decide +kernel
theorem dX1_async_72 : decode cX1_async 72 = .ok (.invokestatic 144, 3) := by decide +kernel
theorem dX1_async_75 : decode cX1_async 75 = .ok (.putfield 111, 3) := by decide +kernel
theorem dX1_async_78 : decode cX1_async 78 = .ok (.aload_n 0, 1) := by decide +kernel
theorem dX1_async_79 : decode cX1_async 79 = .ok (.aload_n 0, 1) := by decide +kernel
theorem dX1_async_80 : decode cX1_async 80 = .ok (.getfield 114, 3) := by decide +kernel
theorem dX1_async_83 : decode cX1_async 83 = .ok (.iload 7, 2) := by decide +kernel
theorem dX1_async_85 : decode cX1_async 85 = .ok (.invokestatic 144, 3) := by decide +kernel
theorem dX1_async_88 : decode cX1_async 88 = .ok (.putfield 114, 3) := by decide +kernel
theorem dX1_async_91 : decode cX1_async 91 = .ok (.aload_n 0, 1) := by decide +kernel
theorem dX1_async_92 : decode cX1_async 92 = .ok (.aload_n 0, 1) := by decide +kernel
theorem dX1_async_93 : decode cX1_async 93 = .ok (.getfield 117, 3) := by decide +kernel
theorem dX1_async_96 : decode cX1_async 96 = .ok (.iload 7, 2) := by decide +kernel
theorem dX1_async_98 : decode cX1_async 98 = .ok (.invokestatic 144, 3) := by decide +kernel
theorem dX1_async_101 : decode cX1_async 101 = .ok (.putfield 117, 3) := by decide +kernel
theorem dX1_async_104 : decode cX1_async 104 = .ok (.aload_n 0, 1) := by decide +kernel
theorem dX1_async_105 : decode cX1_async 105 = .ok (.aload_n 0, 1) := by decide +kernel
theorem dX1_async_106 : decode cX1_async 106 = .ok (.getfield 120, 3) := by decide +kernel
theorem dX1_async_109 : decode cX1_async 109 = .ok (.iload 7, 2) := by decide +kernel
theorem dX1_async_111 : decode cX1_async 111 = .ok (.invokestatic 144, 3) := by decide +kernel
theorem dX1_async_114 : decode cX1_async 114 = .ok (.putfield 120, 3) := by decide +kernel
theorem dX1_async_117 : decode cX1_async 117 = .ok (.aload_n 0, 1) := by decide +kernel
theorem dX1_async_118 : decode cX1_async 118 = .ok (.aload_n 0, 1) := by decide +kernel
theorem dX1_async_119 : decode cX1_async 119 = .ok (.getfield 123, 3) := by decide +kernel
theorem dX1_async_122 : decode cX1_async 122 = .ok (.iload 7, 2) := by decide +kernel
theorem dX1_async_124 : decode cX1_async 124 = .ok (.invokestatic 144, 3) := by decide +kernel
theorem dX1_async_127 : decode cX1_async 127 = .ok (.putfield 123, 3) := by decide +kernel
theorem dX1_async_130 : decode cX1_async 130 = .ok (.aload_n 0, 1) := by decide +kernel
theorem dX1_async_131 : decode cX1_async 131 = .ok (.aload_n 0, 1) := by decide +kernel
theorem dX1_async_132 : decode cX1_async 132 = .ok (.getfield 126, 3) := by decide +kernel
theorem dX1_async_135 : decode cX1_async 135 = .ok (.iload 7, 2) := by decide +kernel
theorem dX1_async_137 : decode cX1_async 137 = .ok (.invokestatic 144, 3) := by decide +kernel
theorem dX1_async_140 : decode cX1_async 140 = .ok (.putfield 126, 3) := by decide +kernel
theorem dX1_async_143 : decode cX1_async 143 = .ok (.aload_n 0, 1) := by decide +kernel
theorem dX1_async_144 : decode cX1_async 144 = .ok (.getfield 298, 3) := by decide +kernel
theorem dX1_async_147 : decode cX1_async 147 = .ok (.istore 7, 2) := by decide +kernel
theorem dX1_async_149 : decode cX1_async 149 = .ok (.aload_n 0, 1) := by decide +kernel
theorem dX1_async_150 : decode cX1_async 150 = .ok (.dup, 1) := by decide +kernel
theorem dX1_async_151 : decode cX1_async 151 = .ok (.getfield 298, 3) := by decide +kernel
theorem dX1_async_154 : decode cX1_async 154 = .ok (.iconst 1, 1) := by decide +kernel
theorem dX1_async_155 : decode cX1_async 155 = .ok (.iadd, 1) := by decide +kernel
theorem dX1_async_156 : decode cX1_async 156 = .ok (.putfield 298, 3) := by decide +kernel
theorem dX1_async_159 : decode cX1_async 159 = .ok (.aload_n 0, 1) := by decide +kernel
theorem dX1_async_160 : decode cX1_async 160 = .ok (.getfield 111, 3) := by decide +kernel
theorem dX1_async_163 : decode cX1_async 163 = .ok (.iload 7, 2) := by decide +kernel
theorem dX1_async_165 : decode cX1_async 165 = .ok (.aload_n 0, 1) := by decide +kernel
theorem dX1_async_166 : decode cX1_async 166 = .ok (.iload 4, 2) := by decide +kernel
theorem dX1_async_168 : decode cX1_async 168 = .ok (.invokevirtual 247, 3) := by decide +kernel
theorem dX1_async_171 : decode cX1_async 171 = .ok (.iastore, 1) := by decide +kernel
theorem dX1_async_172 : decode cX1_async 172 = .ok (.aload_n 0, 1) := by decide +kernel
theorem dX1_async_173 : decode cX1_async 173 = .ok (.getfield 114, 3) := by decide +kernel
theorem dX1_async_176 : decode cX1_async 176 = .ok (.iload 7, 2) := by decide +kernel
theorem dX1_async_178 : decode cX1_async 178 = .ok (.aload_n 0, 1) := by decide +kernel
theorem dX1_async_179 : decode cX1_async 179 = .ok (.getfield 111, 3) := by decide +kernel
theorem dX1_async_182 : decode cX1_async 182 = .ok (.iload 7, 2) := by decide +kernel
theorem dX1_async_184 : decode cX1_async 184 = .ok (.iaload, 1) := by decide +kernel
theorem dX1_async_185 : decode cX1_async 185 = .ok (.iload 4, 2) := by decide +kernel
theorem dX1_async_187 : decode cX1_async 187 = .ok (.iadd, 1) := by decide +kernel
theorem dX1_async_188 : decode cX1_async 188 = .ok (.iastore, 1) := by decide +kernel
theorem dX1_async_189 : decode cX1_async 189 = .ok (.iconst 0, 1) := by decide +kernel
theorem dX1_async_190 : decode cX1_async 190 = .ok (.istore 8, 2) := by decide +kernel
theorem dX1_async_192 : decode cX1_async 192 = .ok (.iload 8, 2) := by decide +kernel
theorem dX1_async_194 : decode cX1_async 194 = .ok (.iload 4, 2) := by decide +kernel
theorem dX1_async_196 : decode cX1_async 196 = .ok (.if_icmp .ge 31, 3) := by decide +kernel
theorem dX1_async_199 : decode cX1_async 199 = .ok (.aload_n 0, 1) := by decide +kernel
theorem dX1_async_200 : decode cX1_async 200 = .ok (.getfield 105, 3) := by decide +kernel
theorem dX1_async_203 : decode cX1_async 203 = .ok (.aload_n 0, 1) := by decide +kernel
theorem dX1_async_204 : decode cX1_async 204 = .ok (.getfield 111, 3) := by decide +kernel
theorem dX1_async_207 : decode cX1_async 207 = .ok (.iload 7, 2) := by decide +kernel
theorem dX1_async_209 : decode cX1_async 209 = .ok (.iaload, 1) := by decide +kernel
theorem dX1_async_210 : decode cX1_async 210 = .ok (.iload 8, 2) := by decide +kernel
theorem dX1_async_212 : decode cX1_async 212 = .ok (.iadd, 1) := by decide +kernel
theorem dX1_async_213 : decode cX1_async 213 = .ok (.aload_n 0, 1) := by decide +kernel
theorem dX1_async_214 : decode cX1_async 214 = .ok (.getfield 108, 3) := by decide +kernel
theorem dX1_async_217 : decode cX1_async 217 = .ok (.iload 8, 2) := by decide +kernel
theorem dX1_async_219 : decode cX1_async 219 = .ok (.iaload, 1) := by decide +kernel
theorem dX1_async_220 : decode cX1_async 220 = .ok (.iastore, 1) := by decide +kernel
theorem dX1_async_221 : decode cX1_async 221 = .ok (.iinc 8 1, 3) := by decide +kernel
theorem dX1_async_224 : decode cX1_async 224 = .ok (.goto (-32), 3) := by decide +kernel
theorem dX1_async_227 : decode cX1_async 227 = .ok (.aload_n 0, 1) := by decide +kernel
theorem dX1_async_228 : decode cX1_async 228 = .ok (.getfield 117, 3) := by decide +kernel
theorem dX1_async_231 : decode cX1_async 231 = .ok (.iload 7, 2) := by decide +kernel
theorem dX1_async_233 : decode cX1_async 233 = .ok (.iload_n 3, 1) := by decide +kernel
theorem dX1_async_234 : decode cX1_async 234 = .ok (.iastore, 1) := by decide +kernel
theorem dX1_async_235 : decode cX1_async 235 = .ok (.aload_n 0, 1) := by decide +kernel
theorem dX1_async_236 : decode cX1_async 236 = .ok (.getfield 120, 3) := by decide +kernel
theorem dX1_async_239 : decode cX1_async 239 = .ok (.iload 7, 2) := by decide +kernel
theorem dX1_async_241 : decode cX1_async 241 = .ok (.iload_n 1, 1) := by decide +kernel
theorem dX1_async_242 : decode cX1_async 242 = .ok (.iastore, 1) := by decide +kernel
theorem dX1_async_243 : decode cX1_async 243 = .ok (.aload_n 0, 1) := by decide +kernel
theorem dX1_async_244 : decode cX1_async 244 = .ok (.getfield 123, 3) := by decide +kernel
theorem dX1_async_247 : decode cX1_async 247 = .ok (.iload 7, 2) := by decide +kernel
theorem dX1_async_249 : decode cX1_async 249 = .ok (.iload 6, 2) := by decide +kernel
theorem dX1_async_251 : decode cX1_async 251 = .ok (.iastore, 1) := by decide +kernel
theorem dX1_async_252 : decode cX1_async 252 = .ok (.aload_n 0, 1) := by decide +kernel
theorem dX1_async_253 : decode cX1_async 253 = .ok (.getfield 126, 3) := by decide +kernel
theorem dX1_async_256 : decode cX1_async 256 = .ok (.iload 7, 2) := by decide +kernel
theorem dX1_async_258 : decode cX1_async 258 = .ok (.iload 6, 2) := by decide +kernel
theorem dX1_async_260 : decode cX1_async 260 = .ok (.iconst 1, 1) := by decide +kernel
theorem dX1_async_261 : decode cX1_async 261 = .ok (.iadd, 1) := by decide +kernel
theorem dX1_async_262 : decode cX1_async 262 = .ok (.iastore, 1) := by decide +kernel
theorem dX1_async_263 : decode cX1_async 263 = .ok (.aload_n 0, 1) := by decide +kernel
theorem dX1_async_264 : decode cX1_async 264 = .ok (.iload 7, 2) := by decide +kernel
theorem dX1_async_266 : decode cX1_async 266 = .ok (.iconst 0, 1) := by decide +kernel
theorem dX1_async_267 : decode cX1_async 267 = .ok (.iconst (-1), 1) := by decide +kernel
theorem dX1_async_268 : decode cX1_async 268 = .ok (.invokevirtual 266, 3) := by decide +kernel
theorem dX1_async_271 : decode cX1_async 271 = .ok (.iload 5, 2) := by decide +kernel
theorem dX1_async_273 : decode cX1_async 273 = .ok (.invokestatic 160, 3) := by decide +kernel
theorem dX1_async_276 : decode cX1_async 276 = .ok (.ireturn, 1) := by decide +kernel
theorem dX1_jobs_0 : decode cX1_jobs 0 = .ok (.iconst 0, 1) := by decide +kernel
theorem dX1_jobs_1 : decode cX1_jobs 1 = .ok (.istore_n 2, 1) := by decide +kernel
theorem dX1_jobs_2 : decode cX1_jobs 2 = .ok (.iload_n 2, 1) := by decide +kernel
theorem dX1_jobs_3 : decode cX1_jobs 3 = .ok (.iload_n 1, 1) := by decide +kernel
theorem dX1_jobs_4 : decode cX1_jobs 4 = .ok (.if_icmp .ge 83, 3) := by decide +kernel
theorem dX1_jobs_7 : decode cX1_jobs 7 = .ok (.aload_n 0, 1) := by decide +kernel
theorem dX1_jobs_8 : decode cX1_jobs 8 = .ok (.getfield 177, 3) := by decide +kernel
theorem dX1_jobs_11 : decode cX1_jobs 11 = .ok (.ifCond .eq 76, 3) := by decide +kernel
theorem dX1_jobs_14 : decode cX1_jobs 14 = .ok (.aload_n 0, 1) := by decide +kernel
theorem dX1_jobs_15 : decode cX1_jobs 15 = .ok (.aload_n 0, 1) := by decide +kernel
theorem dX1_jobs_16 : decode cX1_jobs 16 = .ok (.getfield 241, 3) := by decide +kernel
theorem dX1_jobs_19 : decode cX1_jobs 19 = .ok (.sipush 4000, 3) := by decide +kernel
theorem dX1_jobs_22 : decode cX1_jobs 22 = .ok (.if_icmp .ge 8, 3) := by decide +kernel
theorem dX1_jobs_25 : decode cX1_jobs 25 = .ok (.bipush 8, 2) := by decide +kernel
theorem dX1_jobs_27 : decode cX1_jobs 27 = .ok (.goto 6, 3) := by decide +kernel
theorem dX1_jobs_30 : decode cX1_jobs 30 = .ok (.sipush 3001, 3) := by decide +kernel
theorem dX1_jobs_33 : decode cX1_jobs 33 = .ok (.invokevirtual 282, 3) := by decide +kernel
theorem dX1_jobs_36 : decode cX1_jobs 36 = .ok (.aload_n 0, 1) := by decide +kernel
theorem dX1_jobs_37 : decode cX1_jobs 37 = .ok (.getfield 177, 3) := by decide +kernel
theorem dX1_jobs_40 : decode cX1_jobs 40 = .ok (.istore_n 3, 1) := by decide +kernel
theorem dX1_jobs_41 : decode cX1_jobs 41 = .ok (.aload_n 0, 1) := by decide +kernel
theorem dX1_jobs_42 : decode cX1_jobs 42 = .ok (.aload_n 0, 1) := by decide +kernel
theorem dX1_jobs_43 : decode cX1_jobs 43 = .ok (.getfield 99, 3) := by decide +kernel
theorem dX1_jobs_46 : decode cX1_jobs 46 = .ok (.iload_n 3, 1) := by decide +kernel
theorem dX1_jobs_47 : decode cX1_jobs 47 = .ok (.iaload, 1) := by decide +kernel
theorem dX1_jobs_48 : decode cX1_jobs 48 = .ok (.putfield 177, 3) := by decide +kernel
theorem dX1_jobs_51 : decode cX1_jobs 51 = .ok (.aload_n 0, 1) := by decide +kernel
theorem dX1_jobs_52 : decode cX1_jobs 52 = .ok (.dup, 1) := by decide +kernel
theorem dX1_jobs_53 : decode cX1_jobs 53 = .ok (.getfield 183, 3) := by decide +kernel
theorem dX1_jobs_56 : decode cX1_jobs 56 = .ok (.iconst 1, 1) := by decide +kernel
theorem dX1_jobs_57 : decode cX1_jobs 57 = .ok (.isub, 1) := by decide +kernel
theorem dX1_jobs_58 : decode cX1_jobs 58 = .ok (.putfield 183, 3) := by decide +kernel
theorem dX1_jobs_61 : decode cX1_jobs 61 = .ok (.aload_n 0, 1) := by decide +kernel
theorem dX1_jobs_62 : decode cX1_jobs 62 = .ok (.getfield 99, 3) := by decide +kernel
theorem dX1_jobs_65 : decode cX1_jobs 65 = .ok (.iload_n 3, 1) := by decide +kernel
theorem dX1_jobs_66 : decode cX1_jobs 66 = .ok (.aload_n 0, 1) := by decide +kernel
theorem dX1_jobs_67 : decode cX1_jobs 67 = .ok (.getfield 174, 3) := by decide +kernel
theorem dX1_jobs_70 : decode cX1_jobs 70 = .ok (.iastore, 1) := by decide +kernel
theorem dX1_jobs_71 : decode cX1_jobs 71 = .ok (.aload_n 0, 1) := by decide +kernel
theorem dX1_jobs_72 : decode cX1_jobs 72 = .ok (.iload_n 3, 1) := by decide +kernel
theorem dX1_jobs_73 : decode cX1_jobs 73 = .ok (.putfield 174, 3) := by decide +kernel
theorem dX1_jobs_76 : decode cX1_jobs 76 = .ok (.iinc 2 1, 3) := by decide +kernel
theorem dX1_jobs_79 : decode cX1_jobs 79 = .ok (.aload_n 0, 1) := by decide +kernel
theorem dX1_jobs_80 : decode cX1_jobs 80 = .ok (.iload_n 3, 1) := by decide +kernel
theorem dX1_jobs_81 : decode cX1_jobs 81 = .ok (.invokevirtual 301, 3) := by decide +kernel
theorem dX1_jobs_84 : decode cX1_jobs 84 = .ok (.goto (-82), 3) := by decide +kernel
theorem dX1_jobs_87 : decode cX1_jobs 87 = .ok (.iload_n 2, 1) := by decide +kernel
theorem dX1_jobs_88 : decode cX1_jobs 88 = .ok (.ireturn, 1) := by decide +kernel
theorem dX1_state_0 : decode cX1_state 0 = .ok (.aload_n 0, 1) := by decide +kernel
theorem dX1_state_1 : decode cX1_state 1 = .ok (.iload_n 1, 1) := by decide +kernel
theorem dX1_state_2 : decode cX1_state 2 = .ok (.invokevirtual 289, 3) := by decide +kernel
theorem dX1_state_5 : decode cX1_state 5 = .ok (.istore_n 2, 1) := by decide +kernel
theorem dX1_state_6 : decode cX1_state 6 = .ok (.aload_n 0, 1) := by decide +kernel
theorem dX1_state_7 : decode cX1_state 7 = .ok (.getfield 13, 3) := by decide +kernel
theorem dX1_state_10 : decode cX1_state 10 = .ok (.iload_n 2, 1) := by decide +kernel
theorem dX1_state_11 : decode cX1_state 11 = .ok (.iaload, 1) := by decide +kernel
theorem dX1_state_12 : decode cX1_state 12 = .ok (.aload_n 0, 1) := by decide +kernel
theorem dX1_state_13 : decode cX1_state 13 = .ok (.getfield 28, 3) := by decide +kernel
theorem dX1_state_16 : decode cX1_state 16 = .ok (.iload_n 2, 1) := by decide +kernel
theorem dX1_state_17 : decode cX1_state 17 = .ok (.baload, 1) := by decide +kernel
theorem dX1_state_18 : decode cX1_state 18 = .ok (.ifCond .eq 7, 3) := by decide +kernel
theorem dX1_state_21 : decode cX1_state 21 = .ok (.iconst 4, 1) := by decide +kernel
theorem dX1_state_22 : decode cX1_state 22 = .ok (.goto 4, 3) := by decide +kernel
theorem dX1_state_25 : decode cX1_state 25 = .ok (.iconst 0, 1) := by decide +kernel
theorem dX1_state_26 : decode cX1_state 26 = .ok (.iadd, 1) := by decide +kernel
theorem dX1_state_27 : decode cX1_state 27 = .ok (.ireturn, 1) := by decide +kernel
theorem dX1_result_0 : decode cX1_result 0 = .ok (.aload_n 0, 1) := by decide +kernel
theorem dX1_result_1 : decode cX1_result 1 = .ok (.iload_n 1, 1) := by decide +kernel
theorem dX1_result_2 : decode cX1_result 2 = .ok (.invokevirtual 289, 3) := by decide +kernel
theorem dX1_result_5 : decode cX1_result 5 = .ok (.istore_n 2, 1) := by decide +kernel
theorem dX1_result_6 : decode cX1_result 6 = .ok (.aload_n 0, 1) := by decide +kernel
theorem dX1_result_7 : decode cX1_result 7 = .ok (.getfield 13, 3) := by decide +kernel
theorem dX1_result_10 : decode cX1_result 10 = .ok (.iload_n 2, 1) := by decide +kernel
theorem dX1_result_11 : decode cX1_result 11 = .ok (.iaload, 1) := by decide +kernel
theorem dX1_result_12 : decode cX1_result 12 = .ok (.ifCond .ne 7, 3) := by decide +kernel
theorem dX1_result_15 : decode cX1_result 15 = .ok (.iconst (-1), 1) := by decide +kernel
theorem dX1_result_16 : decode cX1_result 16 = .ok (.goto 9, 3) := by decide +kernel
theorem dX1_result_19 : decode cX1_result 19 = .ok (.aload_n 0, 1) := by decide +kernel
theorem dX1_result_20 : decode cX1_result 20 = .ok (.getfield 16, 3) := by decide +kernel
theorem dX1_result_23 : decode cX1_result 23 = .ok (.iload_n 2, 1) := by decide +kernel
theorem dX1_result_24 : decode cX1_result 24 = .ok (.iaload, 1) := by decide +kernel
theorem dX1_result_25 : decode cX1_result 25 = .ok (.ireturn, 1) := by decide +kernel
theorem dX1_kind_0 : decode cX1_kind 0 = .ok (.iload_n 1, 1) := by decide +kernel
theorem dX1_kind_1 : decode cX1_kind 1 = .ok (.invokestatic 197, 3) := by decide +kernel
theorem dX1_kind_4 : decode cX1_kind 4 = .ok (.ifCond .eq 18, 3) := by decide +kernel
theorem dX1_kind_7 : decode cX1_kind 7 = .ok (.iload_n 1, 1) := by decide +kernel
theorem dX1_kind_8 : decode cX1_kind 8 = .ok (.invokestatic 201, 3) := by decide +kernel
theorem dX1_kind_11 : decode cX1_kind 11 = .ok (.aload_n 0, 1) := by decide +kernel
theorem dX1_kind_12 : decode cX1_kind 12 = .ok (.getfield 138, 3) := by decide +kernel
theorem dX1_kind_15 : decode cX1_kind 15 = .ok (.if_icmp .ge 7, 3) := by decide +kernel
theorem dX1_kind_18 : decode cX1_kind 18 = .ok (.iconst 1, 1) := by decide +kernel
theorem dX1_kind_19 : decode cX1_kind 19 = .ok (.goto 4, 3) := by decide +kernel
theorem dX1_kind_22 : decode cX1_kind 22 = .ok (.iconst 0, 1) := by decide +kernel
theorem dX1_kind_23 : decode cX1_kind 23 = .ok (.invokestatic 275, 3) := by decide +kernel
theorem dX1_kind_26 : decode cX1_kind 26 = .ok (.aload_n 0, 1) := by decide +kernel
theorem dX1_kind_27 : decode cX1_kind 27 = .ok (.getfield 9, 3) := by decide +kernel
theorem dX1_kind_30 : decode cX1_kind 30 = .ok (.iload_n 1, 1) := by decide +kernel
theorem dX1_kind_31 : decode cX1_kind 31 = .ok (.invokestatic 201, 3) := by decide +kernel
theorem dX1_kind_34 : decode cX1_kind 34 = .ok (.iaload, 1) := by decide +kernel
theorem dX1_kind_35 : decode cX1_kind 35 = .ok (.ireturn, 1) := by decide +kernel
theorem dX1_part_0 : decode cX1_part 0 = .ok (.iload_n 1, 1) := by decide +kernel
theorem dX1_part_1 : decode cX1_part 1 = .ok (.invokestatic 197, 3) := by decide +kernel
theorem dX1_part_4 : decode cX1_part 4 = .ok (.ifCond .eq 31, 3) := by decide +kernel
theorem dX1_part_7 : decode cX1_part 7 = .ok (.iload_n 1, 1) := by decide +kernel
theorem dX1_part_8 : decode cX1_part 8 = .ok (.invokestatic 201, 3) := by decide +kernel
theorem dX1_part_11 : decode cX1_part 11 = .ok (.aload_n 0, 1) := by decide +kernel
theorem dX1_part_12 : decode cX1_part 12 = .ok (.getfield 138, 3) := by decide +kernel
theorem dX1_part_15 : decode cX1_part 15 = .ok (.if_icmp .ge 20, 3) := by decide +kernel
theorem dX1_part_18 : decode cX1_part 18 = .ok (.aload_n 0, 1) := by decide +kernel
theorem dX1_part_19 : decode cX1_part 19 = .ok (.getfield 9, 3) := by decide +kernel
theorem dX1_part_22 : decode cX1_part 22 = .ok (.iload_n 1, 1) := by decide +kernel
theorem dX1_part_23 : decode cX1_part 23 = .ok (.invokestatic 201, 3) := by decide +kernel
theorem dX1_part_26 : decode cX1_part 26 = .ok (.iaload, 1) := by decide +kernel
theorem dX1_part_27 : decode cX1_part 27 = .ok (.iconst 3, 1) := by decide +kernel
theorem dX1_part_28 : decode cX1_part 28 = .ok (.if_icmp .lt 7, 3) := by decide +kernel
theorem dX1_part_31 : decode cX1_part 31 = .ok (.iconst 1, 1) := by decide +kernel
theorem dX1_part_32 : decode cX1_part 32 = .ok (.goto 4, 3) := by decide +kernel
theorem dX1_part_35 : decode cX1_part 35 = .ok (.iconst 0, 1) := by decide +kernel
theorem dX1_part_36 : decode cX1_part 36 = .ok (.invokestatic 275, 3) := by decide +kernel
theorem dX1_part_39 : decode cX1_part 39 = .ok (.iload_n 1, 1) := by decide +kernel
theorem dX1_part_40 : decode cX1_part 40 = .ok (.invokestatic 201, 3) := by decide +kernel
theorem dX1_part_43 : decode cX1_part 43 = .ok (.istore_n 3, 1) := by decide +kernel
theorem dX1_part_44 : decode cX1_part 44 = .ok (.aload_n 0, 1) := by decide +kernel
theorem dX1_part_45 : decode cX1_part 45 = .ok (.getfield 9, 3) := by decide +kernel
theorem dX1_part_48 : decode cX1_part 48 = .ok (.iload_n 3, 1) := by decide +kernel
theorem dX1_part_49 : decode cX1_part 49 = .ok (.iaload, 1) := by decide +kernel
theorem dX1_part_50 : decode cX1_part 50 = .ok (.iconst 3, 1) := by decide +kernel
theorem dX1_part_51 : decode cX1_part 51 = .ok (.if_icmp .ne 10, 3) := by decide +kernel
theorem dX1_part_54 : decode cX1_part 54 = .ok (.aload_n 0, 1) := by decide +kernel
theorem dX1_part_55 : decode cX1_part 55 = .ok (.getfield 13, 3) := by decide +kernel
theorem dX1_part_58 : decode cX1_part 58 = .ok (.iload_n 3, 1) := by decide +kernel
theorem dX1_part_59 : decode cX1_part 59 = .ok (.iaload, 1) := by decide +kernel
theorem dX1_part_60 : decode cX1_part 60 = .ok (.istore_n 3, 1) := by decide +kernel
theorem dX1_part_61 : decode cX1_part 61 = .ok (.iload_n 2, 1) := by decide +kernel
theorem dX1_part_62 : decode cX1_part 62 = .ok (.iconst (-1), 1) := by decide +kernel
theorem dX1_part_63 : decode cX1_part 63 = .ok (.if_icmp .ne 10, 3) := by decide +kernel
theorem dX1_part_66 : decode cX1_part 66 = .ok (.aload_n 0, 1) := by decide +kernel
theorem dX1_part_67 : decode cX1_part 67 = .ok (.getfield 16, 3) := by decide +kernel
theorem dX1_part_70 : decode cX1_part 70 = .ok (.iload_n 3, 1) := by decide +kernel
theorem dX1_part_71 : decode cX1_part 71 = .ok (.iaload, 1) := by decide +kernel
theorem dX1_part_72 : decode cX1_part 72 = .ok (.ireturn, 1) := by decide +kernel
theorem dX1_part_73 : decode cX1_part 73 = .ok (.iload_n 2, 1) := by decide +kernel
theorem dX1_part_74 : decode cX1_part 74 = .ok (.ifCond .lt 17, 3) := by decide +kernel
theorem dX1_part_77 : decode cX1_part 77 = .ok (.iload_n 2, 1) := by decide +kernel
theorem dX1_part_78 : decode cX1_part 78 = .ok (.aload_n 0, 1) := by decide +kernel
theorem dX1_part_79 : decode cX1_part 79 = .ok (.getfield 16, 3) := by decide +kernel
theorem dX1_part_82 : decode cX1_part 82 = .ok (.iload_n 3, 1) := by decide +kernel
theorem dX1_part_83 : decode cX1_part 83 = .ok (.iaload, 1) := by decide +kernel
theorem dX1_part_84 : decode cX1_part 84 = .ok (.if_icmp .ge 7, 3) := by decide +kernel
theorem dX1_part_87 : decode cX1_part 87 = .ok (.iconst 1, 1) := by decide +kernel
theorem dX1_part_88 : decode cX1_part 88 = .ok (.goto 4, 3) := by decide +kernel
theorem dX1_part_91 : decode cX1_part 91 = .ok (.iconst 0, 1) := by decide +kernel
theorem dX1_part_92 : decode cX1_part 92 = .ok (.invokestatic 275, 3) := by decide +kernel
theorem dX1_part_95 : decode cX1_part 95 = .ok (.aload_n 0, 1) := by decide +kernel
theorem dX1_part_96 : decode cX1_part 96 = .ok (.getfield 105, 3) := by decide +kernel
theorem dX1_part_99 : decode cX1_part 99 = .ok (.aload_n 0, 1) := by decide +kernel
theorem dX1_part_100 : decode cX1_part 100 = .ok (.getfield 13, 3) := by decide +kernel
theorem dX1_part_103 : decode cX1_part 103 = .ok (.iload_n 3, 1) := by decide +kernel
theorem dX1_part_104 : decode cX1_part 104 = .ok (.iaload, 1) := by decide +kernel
theorem dX1_part_105 : decode cX1_part 105 = .ok (.iload_n 2, 1) := by decide +kernel
theorem dX1_part_106 : decode cX1_part 106 = .ok (.iadd, 1) := by decide +kernel
theorem dX1_part_107 : decode cX1_part 107 = .ok (.iaload, 1) := by decide +kernel
theorem dX1_part_108 : decode cX1_part 108 = .ok (.ireturn, 1) := by decide +kernel
theorem dX1_log_0 : decode cX1_log 0 = .ok (.iload_n 1, 1) := by decide +kernel
theorem dX1_log_1 : decode cX1_log 1 = .ok (.ifCond .lt 11, 3) := by decide +kernel
theorem dX1_log_4 : decode cX1_log 4 = .ok (.iload_n 1, 1) := by decide +kernel
theorem dX1_log_5 : decode cX1_log 5 = .ok (.aload_n 0, 1) := by decide +kernel
theorem dX1_log_6 : decode cX1_log 6 = .ok (.getfield 241, 3) := by decide +kernel
theorem dX1_log_9 : decode cX1_log 9 = .ok (.if_icmp .lt 7, 3) := by decide +kernel
theorem dX1_log_12 : decode cX1_log 12 = .ok (.ldc_w 304, 3) := by decide +kernel
theorem dX1_log_15 : decode cX1_log 15 = .ok (.ireturn, 1) := by decide +kernel
theorem dX1_log_16 : decode cX1_log 16 = .ok (.iload_n 2, 1) := by decide +kernel
theorem dX1_log_17 : decode cX1_log 17 = .ok (.ifCond .eq 12, 3) := by decide +kernel
theorem dX1_log_20 : decode cX1_log 20 = .ok (.aload_n 0, 1) := by decide +kernel
theorem dX1_log_21 : decode cX1_log 21 = .ok (.getfield 135, 3) := by decide +kernel
theorem dX1_log_24 : decode cX1_log 24 = .ok (.iload_n 1, 1) := by decide +kernel
theorem dX1_log_25 : decode cX1_log 25 = .ok (.iaload, 1) := by decide +kernel
theorem dX1_log_26 : decode cX1_log 26 = .ok (.goto 9, 3) := by decide +kernel
theorem dX1_log_29 : decode cX1_log 29 = .ok (.aload_n 0, 1) := by decide +kernel
theorem dX1_log_30 : decode cX1_log 30 = .ok (.getfield 132, 3) := by decide +kernel
theorem dX1_log_33 : decode cX1_log 33 = .ok (.iload_n 1, 1) := by decide +kernel
theorem dX1_log_34 : decode cX1_log 34 = .ok (.iaload, 1) := by decide +kernel
theorem dX1_log_35 : decode cX1_log 35 = .ok (.ireturn, 1) := by decide +kernel
section WALK
variable {p : Program} {l : Launch} {e : Env} {R : Room} {s : State} {m : MethodId} {args : Array Value} {below : List Frame} {meth : Method} {c : Code} {H : Heap} {locs : List Loc} {cells slots : Nat}
variable {E : Ev} {h0 : Nat} {P0 : Le} {kc0 ks0 : Nat} {S0 : State} {A : Nat → Prop} {P : Le} {ls : Array Slot}
theorem m1_async_L192 {Q : Po} {PX : Px} (X : Cx E 0 h0 P0 kc0 ks0 S0 A p l R s m args meth c cX1_async 9 (some .int) 32) : ∀ n, ∀ {a1 : Int} {a3 : Int} {a4 : Int} {a5 : Int} {a6 : Int} {a7 : Int} {a8 : Int} {V : Mv} {Z : Le} {P : Le} {H : Heap} {locs : List Loc} {cells slots : Nat} {ls : Array Slot}, inM V → HS E 0 h0 P0 kc0 ks0 (sbs [15, 16, 17, 18, 20, 22, 23, 24, 25, 26, 27, 29, 30, 31, 32, 38, 42, 43, 44, 45, 46, 47, 51, 52]) A s.heap P (toC V) Z H locs cells slots → lv_has ls 9 [(0, .ref h0), (1, .int (I3 a1)), (3, .int (I3 a3)), (4, .int (I3 a4)), (5, .int (I3 a5)), (6, .int (I3 a6)), (7, .int (I3 a7)), (8, .int (I3 a8))] → inR a1 → inR a3 → inR a4 → inR a5 → inR a6 → inR a7 → inR a8 → w1_async_L192 Q PX n a1 a3 a4 a5 a6 a7 a8 V Z → W p l e R s m args below meth c H locs cells slots (MQx below (QT E 0 h0 true P0 kc0 ks0 (sbs [15, 16, 17, 18, 20, 22, 23, 24, 25, 26, 27, 29, 30, 31, 32, 38, 42, 43, 44, 45, 46, 47, 51, 52]) A (QL Q) (PL PX) s) s) (F0 m 192 ls []) := by
  have hx := X.2.1
  have hb := X.2.2.1
  intro n
  induction n with
  | zero => intros; rename_i hw; exact hw.elim
  | succ n ih =>
    intro a1 a3 a4 a5 a6 a7 a8 V Z P H locs cells slots ls hM hS hl r1 r3 r4 r5 r6 r7 r8 hw
    unfold w1_async_L192 at hw
    refine lv_iload hx hb dX1_async_192 (lv_at hl 7 rfl) ?_
    refine lv_iload hx hb dX1_async_194 (lv_at hl 3 rfl) ?_
    refine z_ige (tgt := 227) hx hb r8 r4 hw dX1_async_196 (by decide) (fun hc hw => ?_) (fun hc hw => ?_)
    · refine lv_aload_n hx hb dX1_async_227 rfl (lv_at hl 0 rfl) ?_
      refine r_ga X hS f1_44 dX1_async_228 ?_
      refine lv_iload hx hb dX1_async_231 (lv_at hl 6 rfl) ?_
      refine lv_iload_n hx hb dX1_async_233 rfl (lv_at hl 2 rfl) ?_
      refine z_is X hS hM a1_44 r3 hw dX1_async_234 (fun V1 hM2 hw H locs hS => ?_)
      refine lv_aload_n hx hb dX1_async_235 rfl (lv_at hl 0 rfl) ?_
      refine r_ga X hS f1_45 dX1_async_236 ?_
      refine lv_iload hx hb dX1_async_239 (lv_at hl 6 rfl) ?_
      refine lv_iload_n hx hb dX1_async_241 rfl (lv_at hl 1 rfl) ?_
      refine z_is X hS hM2 a1_45 r1 hw dX1_async_242 (fun V3 hM4 hw H locs hS => ?_)
      refine lv_aload_n hx hb dX1_async_243 rfl (lv_at hl 0 rfl) ?_
      refine r_ga X hS f1_46 dX1_async_244 ?_
      refine lv_iload hx hb dX1_async_247 (lv_at hl 6 rfl) ?_
      refine lv_iload hx hb dX1_async_249 (lv_at hl 5 rfl) ?_
      refine z_is X hS hM4 a1_46 r6 hw dX1_async_251 (fun V5 hM6 hw H locs hS => ?_)
      refine lv_aload_n hx hb dX1_async_252 rfl (lv_at hl 0 rfl) ?_
      refine r_ga X hS f1_47 dX1_async_253 ?_
      refine lv_iload hx hb dX1_async_256 (lv_at hl 6 rfl) ?_
      refine lv_iload hx hb dX1_async_258 (lv_at hl 5 rfl) ?_
      refine z_iconst hx hb dX1_async_260 ?_
      refine z_add hx hb hw dX1_async_261 (fun h7 hw => ?_)
      refine z_is X hS hM6 a1_47 h7 hw dX1_async_262 (fun V8 hM9 hw H locs hS => ?_)
      refine lv_aload_n hx hb dX1_async_263 rfl (lv_at hl 0 rfl) ?_
      refine lv_iload hx hb dX1_async_264 (lv_at hl 6 rfl) ?_
      refine z_iconst hx hb dX1_async_266 ?_
      refine z_iconst hx hb dX1_async_267 ?_
      refine z_callV X hS (m1_goOn r7 (⟨by decide, by decide⟩) (⟨by decide, by decide⟩) hM9 hw) gv1_266 hy1_goOn rfl (by omega) (by decide) (sbs_sub rfl) hl.1 (Nat.le_of_ble_eq_true rfl) dX1_async_268 rfl (fun x10 V12 Z13 h11 hM14 hw P15 H locs c1 s1 hP hS => ?_)
      refine lv_iload hx hb dX1_async_271 (lv_at hl 4 rfl) ?_
      refine z_vo X hS hw gs1_160 (by omega) hl.1 (Nat.le_of_ble_eq_true rfl) dX1_async_273 (fun h16 hw => ?_)
      exact z_ri X hS hM14 h16 hw dX1_async_276
    · refine lv_aload_n hx hb dX1_async_199 rfl (lv_at hl 0 rfl) ?_
      refine r_ga X hS f1_38 dX1_async_200 ?_
      refine lv_aload_n hx hb dX1_async_203 rfl (lv_at hl 0 rfl) ?_
      refine r_ga X hS f1_42 dX1_async_204 ?_
      refine lv_iload hx hb dX1_async_207 (lv_at hl 6 rfl) ?_
      refine z_il X hS a1_42 hw dX1_async_209 (fun hw => ?_)
      refine lv_iload hx hb dX1_async_210 (lv_at hl 7 rfl) ?_
      refine z_add hx hb hw dX1_async_212 (fun h17 hw => ?_)
      refine lv_aload_n hx hb dX1_async_213 rfl (lv_at hl 0 rfl) ?_
      refine r_ga X hS f1_40 dX1_async_214 ?_
      refine lv_iload hx hb dX1_async_217 (lv_at hl 7 rfl) ?_
      refine z_il X hS a1_40 hw dX1_async_219 (fun hw => ?_)
      refine z_is X hS hM a1_38 (hM 40 a8) hw dX1_async_220 (fun V18 hM19 hw H locs hS => ?_)
      refine z_inc (k := 7) (lv' := [(8, .int (I3 (a8 + 1))), (0, .ref h0), (1, .int (I3 a1)), (3, .int (I3 a3)), (4, .int (I3 a4)), (5, .int (I3 a5)), (6, .int (I3 a6)), (7, .int (I3 a7))]) hx hb hw dX1_async_221 hl rfl (by decide) rfl (fun ls hl h20 hw => ?_)
      refine lv_goto (tgt := 192) hx hb dX1_async_224 (by decide) ?_
      exact ih hM19 hS (lv_sub hl [1, 2, 3, 4, 5, 6, 7, 0] rfl) r1 r3 r4 r5 r6 r7 h20 hw
theorem m1_async_J143 {a1 : Int} {a3 : Int} {a4 : Int} {a5 : Int} {a6 : Int} {V : Mv} {Z : Le} {Q : Po} {PX : Px} (X : Cx E 0 h0 P0 kc0 ks0 S0 A p l R s m args meth c cX1_async 9 (some .int) 32) (hM : inM V) (hS : HS E 0 h0 P0 kc0 ks0 (sbs [15, 16, 17, 18, 20, 22, 23, 24, 25, 26, 27, 29, 30, 31, 32, 38, 42, 43, 44, 45, 46, 47, 51, 52]) A s.heap P (toC V) Z H locs cells slots) (hl : lv_has ls 9 [(0, .ref h0), (1, .int (I3 a1)), (3, .int (I3 a3)), (4, .int (I3 a4)), (5, .int (I3 a5)), (6, .int (I3 a6))]) (r1 : inR a1) (r3 : inR a3) (r4 : inR a4) (r5 : inR a5) (r6 : inR a6) (hw : w1_async_J143 a1 a3 a4 a5 a6 V Z Q PX) : W p l e R s m args below meth c H locs cells slots (MQx below (QT E 0 h0 true P0 kc0 ks0 (sbs [15, 16, 17, 18, 20, 22, 23, 24, 25, 26, 27, 29, 30, 31, 32, 38, 42, 43, 44, 45, 46, 47, 51, 52]) A (QL Q) (PL PX) s) s) (F0 m 143 ls []) := by
  have hx := X.2.1
  have hb := X.2.2.1
  unfold w1_async_J143 at hw
  refine lv_aload_n hx hb dX1_async_143 rfl (lv_at hl 0 rfl) ?_
  refine z_gi X hS f1_48 dX1_async_144 ?_
  refine lv_istore (lv' := [(7, .int (I3 (V 48 0))), (0, .ref h0), (1, .int (I3 a1)), (3, .int (I3 a3)), (4, .int (I3 a4)), (5, .int (I3 a5)), (6, .int (I3 a6))]) hx hb dX1_async_147 hl (by decide) rfl (fun ls hl => ?_)
  refine lv_aload_n hx hb dX1_async_149 rfl (lv_at hl 1 rfl) ?_
  refine lv_dup hx hb dX1_async_150 rfl ?_
  refine z_gi X hS f1_48 dX1_async_151 ?_
  refine z_iconst hx hb dX1_async_154 ?_
  refine z_add hx hb hw dX1_async_155 (fun h21 hw => ?_)
  refine z_pi X hS hM f1_48 p1_48 h21 hw dX1_async_156 (fun V22 hM23 hw H locs hS => ?_)
  refine lv_aload_n hx hb dX1_async_159 rfl (lv_at hl 1 rfl) ?_
  refine r_ga X hS f1_42 dX1_async_160 ?_
  refine lv_iload hx hb dX1_async_163 (lv_at hl 0 rfl) ?_
  refine lv_aload_n hx hb dX1_async_165 rfl (lv_at hl 1 rfl) ?_
  refine lv_iload hx hb dX1_async_166 (lv_at hl 4 rfl) ?_
  refine z_callI X hS (m1_row r4 hM23 hw) gv1_247 hy1_row rfl (by omega) (by decide) (sbs_sub rfl) hl.1 (Nat.le_of_ble_eq_true rfl) dX1_async_168 rfl (fun x24 V26 Z27 h25 hM28 hw P29 H locs c1 s1 hP hS => ?_)
  rw [← hP 42 rfl]
  refine z_is X hS hM28 a1_42 h25 hw dX1_async_171 (fun V30 hM31 hw H locs hS => ?_)
  refine lv_aload_n hx hb dX1_async_172 rfl (lv_at hl 1 rfl) ?_
  refine r_ga X hS f1_43 dX1_async_173 ?_
  refine lv_iload hx hb dX1_async_176 (lv_at hl 0 rfl) ?_
  refine lv_aload_n hx hb dX1_async_178 rfl (lv_at hl 1 rfl) ?_
  refine r_ga X hS f1_42 dX1_async_179 ?_
  refine lv_iload hx hb dX1_async_182 (lv_at hl 0 rfl) ?_
  refine z_il X hS a1_42 hw dX1_async_184 (fun hw => ?_)
  refine lv_iload hx hb dX1_async_185 (lv_at hl 4 rfl) ?_
  refine z_add hx hb hw dX1_async_187 (fun h32 hw => ?_)
  refine z_is X hS hM31 a1_43 h32 hw dX1_async_188 (fun V33 hM34 hw H locs hS => ?_)
  refine z_iconst hx hb dX1_async_189 ?_
  refine lv_istore (lv' := [(8, .int (I3 0)), (7, .int (I3 (V 48 0))), (0, .ref h0), (1, .int (I3 a1)), (3, .int (I3 a3)), (4, .int (I3 a4)), (5, .int (I3 a5)), (6, .int (I3 a6))]) hx hb dX1_async_190 hl (by decide) rfl (fun ls hl => ?_)
  obtain ⟨n, hw⟩ := hw
  exact m1_async_L192 X n hM34 hS (lv_sub hl [2, 3, 4, 5, 6, 7, 1, 0] rfl) r1 r3 r4 r5 r6 (hM 48 0) (⟨by decide, by decide⟩) hw
theorem m1_async {a1 : Int} {a2 : Int} {V : Mv} {Z : Le} {Q : Po} {PX : Px} (r1 : inR a1) (r2 : inR a2) (hM : inM V) (hw : w1_async a1 a2 V Z Q PX) : MT l S0 E 0 h0 yX1_async cX1_async 9 (some .int) 32 true (sbs [15, 16, 17, 18, 20, 22, 23, 24, 25, 26, 27, 29, 30, 31, 32, 38, 42, 43, 44, 45, 46, 47, 51, 52]) [.int (I3 a1), .int (I3 a2)] (toC V) Z (QL Q) (PL PX) := by
  refine mt_of Gk0 (by decide) rfl (Nat.le_of_ble_eq_true rfl) ?_
  intro p e s m below meth c A P ls X hS hl
  have hl : lv_has ls 9 [(0, .ref h0), (1, .int (I3 a1)), (2, .int (I3 a2))] := hl
  have hx := X.2.1
  have hb := X.2.2.1
  unfold w1_async at hw
  refine lv_aload_n hx hb dX1_async_0 rfl (lv_at hl 0 rfl) ?_
  refine lv_iload_n hx hb dX1_async_1 rfl (lv_at hl 1 rfl) ?_
  refine z_cRI X hS (m1_isValue r1 hM hw) gv1_286 hy1_isValue rfl (by omega) (by decide) (by decide) hl.1 (Nat.le_of_ble_eq_true rfl) dX1_async_2 rfl (fun x35 h36 hw => ?_)
  refine z_needT X hS hM h36 hw gs1_275 (by omega) hl.1 (Nat.le_of_ble_eq_true rfl) dX1_async_5 (fun hc hw => ?_)
  refine lv_aload_n hx hb dX1_async_8 rfl (lv_at hl 0 rfl) ?_
  refine lv_iload_n hx hb dX1_async_9 rfl (lv_at hl 2 rfl) ?_
  refine z_cRI X hS (m1_handlerOf r2 hM hw) gv1_292 hy1_handlerOf rfl (by omega) (by decide) (by decide) hl.1 (Nat.le_of_ble_eq_true rfl) dX1_async_10 rfl (fun x37 h38 hw => ?_)
  refine lv_istore_n (lv' := [(3, .int (I3 x37)), (0, .ref h0), (1, .int (I3 a1)), (2, .int (I3 a2))]) hx hb dX1_async_13 rfl hl (by decide) rfl (fun ls hl => ?_)
  refine lv_aload_n hx hb dX1_async_14 rfl (lv_at hl 1 rfl) ?_
  refine z_bipush hx hb dX1_async_15 (by decide +kernel) ?_
  refine z_cRV X hS (m1_room (⟨by decide, by decide⟩) hM hw) gv1_282 hy1_room rfl (by omega) (by decide) (by decide) hl.1 (Nat.le_of_ble_eq_true rfl) dX1_async_17 rfl (fun x39 h40 hw => ?_)
  refine lv_aload_n hx hb dX1_async_20 rfl (lv_at hl 1 rfl) ?_
  refine z_gi X hS f1_41 dX1_async_21 ?_
  refine lv_istore (lv' := [(4, .int (I3 (V 41 0))), (3, .int (I3 x37)), (0, .ref h0), (1, .int (I3 a1)), (2, .int (I3 a2))]) hx hb dX1_async_24 hl (by decide) rfl (fun ls hl => ?_)
  refine lv_aload_n hx hb dX1_async_26 rfl (lv_at hl 2 rfl) ?_
  refine z_iconst hx hb dX1_async_27 ?_
  refine z_pi X hS hM f1_41 p1_41 (⟨by decide, by decide⟩) hw dX1_async_28 (fun V41 hM42 hw H locs hS => ?_)
  refine lv_aload_n hx hb dX1_async_31 rfl (lv_at hl 2 rfl) ?_
  refine z_callI X hS (m1_newPromise  hM42 hw) gv1_204 hy1_newPromise rfl (by omega) (by decide) (sbs_sub rfl) hl.1 (Nat.le_of_ble_eq_true rfl) dX1_async_32 rfl (fun x43 V45 Z46 h44 hM47 hw P48 H locs c1 s1 hP hS => ?_)
  refine lv_istore (lv' := [(5, .int (I3 x43)), (4, .int (I3 (V 41 0))), (3, .int (I3 x37)), (0, .ref h0), (1, .int (I3 a1)), (2, .int (I3 a2))]) hx hb dX1_async_35 hl (by decide) rfl (fun ls hl => ?_)
  refine lv_aload_n hx hb dX1_async_37 rfl (lv_at hl 3 rfl) ?_
  refine lv_iload hx hb dX1_async_38 (lv_at hl 0 rfl) ?_
  refine z_callI X hS (m1_functionsOf h44 hM47 hw) gv1_207 hy1_functionsOf rfl (by omega) (by decide) (sbs_sub rfl) hl.1 (Nat.le_of_ble_eq_true rfl) dX1_async_40 rfl (fun x49 V51 Z52 h50 hM53 hw P54 H locs c1 s1 hP hS => ?_)
  refine lv_istore (lv' := [(6, .int (I3 x49)), (5, .int (I3 x43)), (4, .int (I3 (V 41 0))), (3, .int (I3 x37)), (0, .ref h0), (1, .int (I3 a1)), (2, .int (I3 a2))]) hx hb dX1_async_43 hl (by decide) rfl (fun ls hl => ?_)
  refine lv_aload_n hx hb dX1_async_45 rfl (lv_at hl 4 rfl) ?_
  refine z_gi X hS f1_48 dX1_async_46 ?_
  refine lv_aload_n hx hb dX1_async_49 rfl (lv_at hl 4 rfl) ?_
  refine r_ga X hS f1_42 dX1_async_50 ?_
  refine z_len X hS a1_42 dX1_async_53 ?_
  refine z_ine (tgt := 143) hx hb (hM53 48 0) (z_lenR hS a1_42) hw dX1_async_54 (by decide) (fun hc hw => ?_) (fun hc hw => ?_)
  · exact m1_async_J143 X hM53 hS (lv_sub hl [4, 5, 3, 2, 1, 0] rfl) r1 h38 (hM 41 0) h44 h50 hw
  · refine z_iconst hx hb dX1_async_57 ?_
    refine lv_aload_n hx hb dX1_async_58 rfl (lv_at hl 4 rfl) ?_
    refine z_gi X hS f1_48 dX1_async_59 ?_
    refine z_mul hx hb hw dX1_async_62 (fun h55 hw => ?_)
    refine lv_istore (lv' := [(7, .int (I3 (2 * V51 48 0))), (6, .int (I3 x49)), (5, .int (I3 x43)), (4, .int (I3 (V 41 0))), (3, .int (I3 x37)), (0, .ref h0), (1, .int (I3 a1)), (2, .int (I3 a2))]) hx hb dX1_async_63 hl (by decide) rfl (fun ls hl => ?_)
    refine lv_aload_n hx hb dX1_async_65 rfl (lv_at hl 5 rfl) ?_
    refine lv_aload_n hx hb dX1_async_66 rfl (lv_at hl 5 rfl) ?_
    refine r_ga X hS f1_42 dX1_async_67 ?_
    refine lv_iload hx hb dX1_async_70 (lv_at hl 0 rfl) ?_
    refine z_grow X hS hM53 f1_42 a1_42 rfl rfl (by decide) hw gs1_144 (by omega) hl.1 (Nat.le_of_ble_eq_true rfl) dX1_async_72 dX1_async_75 (fun V56 Z57 hM58 hw P59 H locs c1 s1 hP hS => ?_)
    refine lv_aload_n hx hb dX1_async_78 rfl (lv_at hl 5 rfl) ?_
    refine lv_aload_n hx hb dX1_async_79 rfl (lv_at hl 5 rfl) ?_
    refine r_ga X hS f1_43 dX1_async_80 ?_
    refine lv_iload hx hb dX1_async_83 (lv_at hl 0 rfl) ?_
    refine z_grow X hS hM58 f1_43 a1_43 rfl rfl (by decide) hw gs1_144 (by omega) hl.1 (Nat.le_of_ble_eq_true rfl) dX1_async_85 dX1_async_88 (fun V60 Z61 hM62 hw P63 H locs c1 s1 hP hS => ?_)
    refine lv_aload_n hx hb dX1_async_91 rfl (lv_at hl 5 rfl) ?_
    refine lv_aload_n hx hb dX1_async_92 rfl (lv_at hl 5 rfl) ?_
    refine r_ga X hS f1_44 dX1_async_93 ?_
    refine lv_iload hx hb dX1_async_96 (lv_at hl 0 rfl) ?_
    refine z_grow X hS hM62 f1_44 a1_44 rfl rfl (by decide) hw gs1_144 (by omega) hl.1 (Nat.le_of_ble_eq_true rfl) dX1_async_98 dX1_async_101 (fun V64 Z65 hM66 hw P67 H locs c1 s1 hP hS => ?_)
    refine lv_aload_n hx hb dX1_async_104 rfl (lv_at hl 5 rfl) ?_
    refine lv_aload_n hx hb dX1_async_105 rfl (lv_at hl 5 rfl) ?_
    refine r_ga X hS f1_45 dX1_async_106 ?_
    refine lv_iload hx hb dX1_async_109 (lv_at hl 0 rfl) ?_
    refine z_grow X hS hM66 f1_45 a1_45 rfl rfl (by decide) hw gs1_144 (by omega) hl.1 (Nat.le_of_ble_eq_true rfl) dX1_async_111 dX1_async_114 (fun V68 Z69 hM70 hw P71 H locs c1 s1 hP hS => ?_)
    refine lv_aload_n hx hb dX1_async_117 rfl (lv_at hl 5 rfl) ?_
    refine lv_aload_n hx hb dX1_async_118 rfl (lv_at hl 5 rfl) ?_
    refine r_ga X hS f1_46 dX1_async_119 ?_
    refine lv_iload hx hb dX1_async_122 (lv_at hl 0 rfl) ?_
    refine z_grow X hS hM70 f1_46 a1_46 rfl rfl (by decide) hw gs1_144 (by omega) hl.1 (Nat.le_of_ble_eq_true rfl) dX1_async_124 dX1_async_127 (fun V72 Z73 hM74 hw P75 H locs c1 s1 hP hS => ?_)
    refine lv_aload_n hx hb dX1_async_130 rfl (lv_at hl 5 rfl) ?_
    refine lv_aload_n hx hb dX1_async_131 rfl (lv_at hl 5 rfl) ?_
    refine r_ga X hS f1_47 dX1_async_132 ?_
    refine lv_iload hx hb dX1_async_135 (lv_at hl 0 rfl) ?_
    refine z_grow X hS hM74 f1_47 a1_47 rfl rfl (by decide) hw gs1_144 (by omega) hl.1 (Nat.le_of_ble_eq_true rfl) dX1_async_137 dX1_async_140 (fun V76 Z77 hM78 hw P79 H locs c1 s1 hP hS => ?_)
    exact m1_async_J143 X hM78 hS (lv_sub hl [5, 6, 4, 3, 2, 1] rfl) r1 h38 (hM 41 0) h44 h50 hw
theorem m1_jobs_J87 {a2 : Int} {V : Mv} {Z : Le} {Q : Po} {PX : Px} (X : Cx E 0 h0 P0 kc0 ks0 S0 A p l R s m args meth c cX1_jobs 4 (some .int) 33) (hM : inM V) (hS : HS E 0 h0 P0 kc0 ks0 (sbs [15, 16, 17, 18, 20, 22, 23, 24, 25, 26, 27, 29, 30, 31, 32, 38, 51, 52]) A s.heap P (toC V) Z H locs cells slots) (hl : lv_has ls 4 [(2, .int (I3 a2))]) (r2 : inR a2) (hw : w1_jobs_J87 a2 V Z Q PX) : W p l e R s m args below meth c H locs cells slots (MQx below (QT E 0 h0 true P0 kc0 ks0 (sbs [15, 16, 17, 18, 20, 22, 23, 24, 25, 26, 27, 29, 30, 31, 32, 38, 51, 52]) A (QL Q) (PL PX) s) s) (F0 m 87 ls []) := by
  have hx := X.2.1
  have hb := X.2.2.1
  unfold w1_jobs_J87 at hw
  refine lv_iload_n hx hb dX1_jobs_87 rfl (lv_at hl 0 rfl) ?_
  exact z_ri X hS hM r2 hw dX1_jobs_88
theorem m1_jobs_J33 {L : Int → Int → Mv → Le → Prop} {a1 : Int} {a2 : Int} {b1 : Int} {V : Mv} {Z : Le} {Q : Po} {PX : Px} (hL : ∀ {a1 : Int} {a2 : Int} {V : Mv} {Z : Le} {P : Le} {H : Heap} {locs : List Loc} {cells slots : Nat} {ls : Array Slot}, inM V → HS E 0 h0 P0 kc0 ks0 (sbs [15, 16, 17, 18, 20, 22, 23, 24, 25, 26, 27, 29, 30, 31, 32, 38, 51, 52]) A s.heap P (toC V) Z H locs cells slots → lv_has ls 4 [(0, .ref h0), (1, .int (I3 a1)), (2, .int (I3 a2))] → inR a1 → inR a2 → L a1 a2 V Z → W p l e R s m args below meth c H locs cells slots (MQx below (QT E 0 h0 true P0 kc0 ks0 (sbs [15, 16, 17, 18, 20, 22, 23, 24, 25, 26, 27, 29, 30, 31, 32, 38, 51, 52]) A (QL Q) (PL PX) s) s) (F0 m 2 ls [])) (X : Cx E 0 h0 P0 kc0 ks0 S0 A p l R s m args meth c cX1_jobs 4 (some .int) 33) (hM : inM V) (hS : HS E 0 h0 P0 kc0 ks0 (sbs [15, 16, 17, 18, 20, 22, 23, 24, 25, 26, 27, 29, 30, 31, 32, 38, 51, 52]) A s.heap P (toC V) Z H locs cells slots) (hl : lv_has ls 4 [(0, .ref h0), (1, .int (I3 a1)), (2, .int (I3 a2))]) (r1 : inR a1) (r2 : inR a2) (sr1 : inR b1) (hw : w1_jobs_J33 L a1 a2 b1 V Z Q PX) : W p l e R s m args below meth c H locs cells slots (MQx below (QT E 0 h0 true P0 kc0 ks0 (sbs [15, 16, 17, 18, 20, 22, 23, 24, 25, 26, 27, 29, 30, 31, 32, 38, 51, 52]) A (QL Q) (PL PX) s) s) (F0 m 33 ls [.int (I3 b1), .ref h0]) := by
  have hx := X.2.1
  have hb := X.2.2.1
  unfold w1_jobs_J33 at hw
  refine z_cRV X hS (m1_room sr1 hM hw) gv1_282 hy1_room rfl (by omega) (by decide) (by decide) hl.1 (Nat.le_of_ble_eq_true rfl) dX1_jobs_33 rfl (fun x1 h2 hw => ?_)
  refine lv_aload_n hx hb dX1_jobs_36 rfl (lv_at hl 0 rfl) ?_
  refine z_gi X hS f1_34 dX1_jobs_37 ?_
  refine lv_istore_n (lv' := [(3, .int (I3 (V 34 0))), (0, .ref h0), (1, .int (I3 a1)), (2, .int (I3 a2))]) hx hb dX1_jobs_40 rfl hl (by decide) rfl (fun ls hl => ?_)
  refine lv_aload_n hx hb dX1_jobs_41 rfl (lv_at hl 1 rfl) ?_
  refine lv_aload_n hx hb dX1_jobs_42 rfl (lv_at hl 1 rfl) ?_
  refine r_ga X hS f1_32 dX1_jobs_43 ?_
  refine lv_iload_n hx hb dX1_jobs_46 rfl (lv_at hl 0 rfl) ?_
  refine z_il X hS a1_32 hw dX1_jobs_47 (fun hw => ?_)
  refine z_pi X hS hM f1_34 p1_34 (hM 32 (V 34 0)) hw dX1_jobs_48 (fun V3 hM4 hw H locs hS => ?_)
  refine lv_aload_n hx hb dX1_jobs_51 rfl (lv_at hl 1 rfl) ?_
  refine lv_dup hx hb dX1_jobs_52 rfl ?_
  refine z_gi X hS f1_36 dX1_jobs_53 ?_
  refine z_iconst hx hb dX1_jobs_56 ?_
  refine z_sub hx hb hw dX1_jobs_57 (fun h5 hw => ?_)
  refine z_pi X hS hM4 f1_36 p1_36 h5 hw dX1_jobs_58 (fun V6 hM7 hw H locs hS => ?_)
  refine lv_aload_n hx hb dX1_jobs_61 rfl (lv_at hl 1 rfl) ?_
  refine r_ga X hS f1_32 dX1_jobs_62 ?_
  refine lv_iload_n hx hb dX1_jobs_65 rfl (lv_at hl 0 rfl) ?_
  refine lv_aload_n hx hb dX1_jobs_66 rfl (lv_at hl 1 rfl) ?_
  refine z_gi X hS f1_37 dX1_jobs_67 ?_
  refine z_is X hS hM7 a1_32 (hM7 37 0) hw dX1_jobs_70 (fun V8 hM9 hw H locs hS => ?_)
  refine lv_aload_n hx hb dX1_jobs_71 rfl (lv_at hl 1 rfl) ?_
  refine lv_iload_n hx hb dX1_jobs_72 rfl (lv_at hl 0 rfl) ?_
  refine z_pi X hS hM9 f1_37 p1_37 (hM 34 0) hw dX1_jobs_73 (fun V10 hM11 hw H locs hS => ?_)
  refine z_inc (k := 3) (lv' := [(2, .int (I3 (a2 + 1))), (3, .int (I3 (V 34 0))), (0, .ref h0), (1, .int (I3 a1))]) hx hb hw dX1_jobs_76 hl rfl (by decide) rfl (fun ls hl h12 hw => ?_)
  refine lv_aload_n hx hb dX1_jobs_79 rfl (lv_at hl 2 rfl) ?_
  refine lv_iload_n hx hb dX1_jobs_80 rfl (lv_at hl 1 rfl) ?_
  refine z_callV X hS (m1_job (hM 34 0) hM11 hw) gv1_301 hy1_job rfl (by omega) (by decide) (sbs_sub rfl) hl.1 (Nat.le_of_ble_eq_true rfl) dX1_jobs_81 rfl (fun x13 V15 Z16 h14 hM17 hw P18 H locs c1 s1 hP hS => ?_)
  refine lv_goto (tgt := 2) hx hb dX1_jobs_84 (by decide) ?_
  exact hL hM17 hS (lv_sub hl [2, 3, 0] rfl)  r1 h12 hw
theorem m1_jobs_L2 {Q : Po} {PX : Px} (X : Cx E 0 h0 P0 kc0 ks0 S0 A p l R s m args meth c cX1_jobs 4 (some .int) 33) : ∀ n, ∀ {a1 : Int} {a2 : Int} {V : Mv} {Z : Le} {P : Le} {H : Heap} {locs : List Loc} {cells slots : Nat} {ls : Array Slot}, inM V → HS E 0 h0 P0 kc0 ks0 (sbs [15, 16, 17, 18, 20, 22, 23, 24, 25, 26, 27, 29, 30, 31, 32, 38, 51, 52]) A s.heap P (toC V) Z H locs cells slots → lv_has ls 4 [(0, .ref h0), (1, .int (I3 a1)), (2, .int (I3 a2))] → inR a1 → inR a2 → w1_jobs_L2 Q PX n a1 a2 V Z → W p l e R s m args below meth c H locs cells slots (MQx below (QT E 0 h0 true P0 kc0 ks0 (sbs [15, 16, 17, 18, 20, 22, 23, 24, 25, 26, 27, 29, 30, 31, 32, 38, 51, 52]) A (QL Q) (PL PX) s) s) (F0 m 2 ls []) := by
  have hx := X.2.1
  have hb := X.2.2.1
  intro n
  induction n with
  | zero => intros; rename_i hw; exact hw.elim
  | succ n ih =>
    intro a1 a2 V Z P H locs cells slots ls hM hS hl r1 r2 hw
    unfold w1_jobs_L2 at hw
    refine lv_iload_n hx hb dX1_jobs_2 rfl (lv_at hl 2 rfl) ?_
    refine lv_iload_n hx hb dX1_jobs_3 rfl (lv_at hl 1 rfl) ?_
    refine z_ige (tgt := 87) hx hb r2 r1 hw dX1_jobs_4 (by decide) (fun hc hw => ?_) (fun hc hw => ?_)
    · exact m1_jobs_J87 X hM hS (lv_sub hl [2] rfl) r2 hw
    · refine lv_aload_n hx hb dX1_jobs_7 rfl (lv_at hl 0 rfl) ?_
      refine z_gi X hS f1_34 dX1_jobs_8 ?_
      refine z_zeq (tgt := 87) hx hb (hM 34 0) hw dX1_jobs_11 (by decide) (fun hc hw => ?_) (fun hc hw => ?_)
      · exact m1_jobs_J87 X hM hS (lv_sub hl [2] rfl) r2 hw
      · refine lv_aload_n hx hb dX1_jobs_14 rfl (lv_at hl 0 rfl) ?_
        refine lv_aload_n hx hb dX1_jobs_15 rfl (lv_at hl 0 rfl) ?_
        refine z_gi X hS f1_53 dX1_jobs_16 ?_
        refine z_sipush hx hb dX1_jobs_19 (by decide +kernel) ?_
        refine z_ige (tgt := 30) hx hb (hM 53 0) (⟨by decide, by decide⟩) hw dX1_jobs_22 (by decide) (fun hc hw => ?_) (fun hc hw => ?_)
        · refine z_sipush hx hb dX1_jobs_30 (by decide +kernel) ?_
          exact m1_jobs_J33 ih X hM hS (lv_sub hl [0, 1, 2] rfl) r1 r2 (⟨by decide, by decide⟩) hw
        · refine z_bipush hx hb dX1_jobs_25 (by decide +kernel) ?_
          refine lv_goto (tgt := 33) hx hb dX1_jobs_27 (by decide) ?_
          exact m1_jobs_J33 ih X hM hS (lv_sub hl [0, 1, 2] rfl) r1 r2 (⟨by decide, by decide⟩) hw
theorem m1_jobs {a1 : Int} {V : Mv} {Z : Le} {Q : Po} {PX : Px} (r1 : inR a1) (hM : inM V) (hw : w1_jobs a1 V Z Q PX) : MT l S0 E 0 h0 yX1_jobs cX1_jobs 4 (some .int) 33 true (sbs [15, 16, 17, 18, 20, 22, 23, 24, 25, 26, 27, 29, 30, 31, 32, 38, 51, 52]) [.int (I3 a1)] (toC V) Z (QL Q) (PL PX) := by
  refine mt_of Gk0 (by decide) rfl (Nat.le_of_ble_eq_true rfl) ?_
  intro p e s m below meth c A P ls X hS hl
  have hl : lv_has ls 4 [(0, .ref h0), (1, .int (I3 a1))] := hl
  have hx := X.2.1
  have hb := X.2.2.1
  unfold w1_jobs at hw
  refine z_iconst hx hb dX1_jobs_0 ?_
  refine lv_istore_n (lv' := [(2, .int (I3 0)), (0, .ref h0), (1, .int (I3 a1))]) hx hb dX1_jobs_1 rfl hl (by decide) rfl (fun ls hl => ?_)
  obtain ⟨n, hw⟩ := hw
  exact m1_jobs_L2 X n hM hS (lv_sub hl [1, 2, 0] rfl) r1 (⟨by decide, by decide⟩) hw
theorem m1_state_J26 {b0 : Int} {b1 : Int} {V : Mv} {Z : Le} {Q : Po} {PX : Px} (X : Cx E 0 h0 P0 kc0 ks0 S0 A p l R s m args meth c cX1_state 3 (some .int) 8) (hM : inM V) (hS : HS E 0 h0 P0 kc0 ks0 (sbs []) A s.heap P (toC V) Z H locs cells slots) (hl : lv_has ls 3 []) (sr0 : inR b0) (sr1 : inR b1) (hw : w1_state_J26 b0 b1 V Z Q PX) : W p l e R s m args below meth c H locs cells slots (MQx below (QT E 0 h0 true P0 kc0 ks0 (sbs []) A (QL Q) (PL PX) s) s) (F0 m 26 ls [.int (I3 b1), .int (I3 b0)]) := by
  have hx := X.2.1
  have hb := X.2.2.1
  unfold w1_state_J26 at hw
  refine z_add hx hb hw dX1_state_26 (fun h1 hw => ?_)
  exact z_ri X hS hM h1 hw dX1_state_27
theorem m1_state {a1 : Int} {V : Mv} {Z : Le} {Q : Po} {PX : Px} (r1 : inR a1) (hM : inM V) (hw : w1_state a1 V Z Q PX) : MT l S0 E 0 h0 yX1_state cX1_state 3 (some .int) 8 true (sbs []) [.int (I3 a1)] (toC V) Z (QL Q) (PL PX) := by
  refine mt_of Gk0 (by decide) rfl (Nat.le_of_ble_eq_true rfl) ?_
  intro p e s m below meth c A P ls X hS hl
  have hl : lv_has ls 3 [(0, .ref h0), (1, .int (I3 a1))] := hl
  have hx := X.2.1
  have hb := X.2.2.1
  unfold w1_state at hw
  refine lv_aload_n hx hb dX1_state_0 rfl (lv_at hl 0 rfl) ?_
  refine lv_iload_n hx hb dX1_state_1 rfl (lv_at hl 1 rfl) ?_
  refine z_cRI X hS (m1_promiseOf r1 hM hw) gv1_289 hy1_promiseOf rfl (by omega) (by decide) (by decide) hl.1 (Nat.le_of_ble_eq_true rfl) dX1_state_2 rfl (fun x2 h3 hw => ?_)
  refine lv_istore_n (lv' := [(2, .int (I3 x2)), (0, .ref h0), (1, .int (I3 a1))]) hx hb dX1_state_5 rfl hl (by decide) rfl (fun ls hl => ?_)
  refine lv_aload_n hx hb dX1_state_6 rfl (lv_at hl 1 rfl) ?_
  refine r_ga X hS f1_1 dX1_state_7 ?_
  refine lv_iload_n hx hb dX1_state_10 rfl (lv_at hl 0 rfl) ?_
  refine z_il X hS a1_1 hw dX1_state_11 (fun hw => ?_)
  refine lv_aload_n hx hb dX1_state_12 rfl (lv_at hl 1 rfl) ?_
  refine r_ga X hS f1_6 dX1_state_13 ?_
  refine lv_iload_n hx hb dX1_state_16 rfl (lv_at hl 0 rfl) ?_
  refine z_zl X hS a1_6 hw dX1_state_17 (fun hw => ?_)
  refine z_zeq (tgt := 25) hx hb (hM 6 x2) hw dX1_state_18 (by decide) (fun hc hw => ?_) (fun hc hw => ?_)
  · refine z_iconst hx hb dX1_state_25 ?_
    exact m1_state_J26 X hM hS (lv_sub hl [] rfl) (hM 1 x2) (⟨by decide, by decide⟩) hw
  · refine z_iconst hx hb dX1_state_21 ?_
    refine lv_goto (tgt := 26) hx hb dX1_state_22 (by decide) ?_
    exact m1_state_J26 X hM hS (lv_sub hl [] rfl) (hM 1 x2) (⟨by decide, by decide⟩) hw
theorem m1_result_J25 {b0 : Int} {V : Mv} {Z : Le} {Q : Po} {PX : Px} (X : Cx E 0 h0 P0 kc0 ks0 S0 A p l R s m args meth c cX1_result 3 (some .int) 8) (hM : inM V) (hS : HS E 0 h0 P0 kc0 ks0 (sbs []) A s.heap P (toC V) Z H locs cells slots) (hl : lv_has ls 3 []) (sr0 : inR b0) (hw : w1_result_J25 b0 V Z Q PX) : W p l e R s m args below meth c H locs cells slots (MQx below (QT E 0 h0 true P0 kc0 ks0 (sbs []) A (QL Q) (PL PX) s) s) (F0 m 25 ls [.int (I3 b0)]) := by
  have hx := X.2.1
  have hb := X.2.2.1
  unfold w1_result_J25 at hw
  exact z_ri X hS hM sr0 hw dX1_result_25
theorem m1_result {a1 : Int} {V : Mv} {Z : Le} {Q : Po} {PX : Px} (r1 : inR a1) (hM : inM V) (hw : w1_result a1 V Z Q PX) : MT l S0 E 0 h0 yX1_result cX1_result 3 (some .int) 8 true (sbs []) [.int (I3 a1)] (toC V) Z (QL Q) (PL PX) := by
  refine mt_of Gk0 (by decide) rfl (Nat.le_of_ble_eq_true rfl) ?_
  intro p e s m below meth c A P ls X hS hl
  have hl : lv_has ls 3 [(0, .ref h0), (1, .int (I3 a1))] := hl
  have hx := X.2.1
  have hb := X.2.2.1
  unfold w1_result at hw
  refine lv_aload_n hx hb dX1_result_0 rfl (lv_at hl 0 rfl) ?_
  refine lv_iload_n hx hb dX1_result_1 rfl (lv_at hl 1 rfl) ?_
  refine z_cRI X hS (m1_promiseOf r1 hM hw) gv1_289 hy1_promiseOf rfl (by omega) (by decide) (by decide) hl.1 (Nat.le_of_ble_eq_true rfl) dX1_result_2 rfl (fun x1 h2 hw => ?_)
  refine lv_istore_n (lv' := [(2, .int (I3 x1)), (0, .ref h0), (1, .int (I3 a1))]) hx hb dX1_result_5 rfl hl (by decide) rfl (fun ls hl => ?_)
  refine lv_aload_n hx hb dX1_result_6 rfl (lv_at hl 1 rfl) ?_
  refine r_ga X hS f1_1 dX1_result_7 ?_
  refine lv_iload_n hx hb dX1_result_10 rfl (lv_at hl 0 rfl) ?_
  refine z_il X hS a1_1 hw dX1_result_11 (fun hw => ?_)
  refine z_zne (tgt := 19) hx hb (hM 1 x1) hw dX1_result_12 (by decide) (fun hc hw => ?_) (fun hc hw => ?_)
  · refine lv_aload_n hx hb dX1_result_19 rfl (lv_at hl 1 rfl) ?_
    refine r_ga X hS f1_2 dX1_result_20 ?_
    refine lv_iload_n hx hb dX1_result_23 rfl (lv_at hl 0 rfl) ?_
    refine z_il X hS a1_2 hw dX1_result_24 (fun hw => ?_)
    exact m1_result_J25 X hM hS (lv_sub hl [] rfl) (hM 2 x1) hw
  · refine z_iconst hx hb dX1_result_15 ?_
    refine lv_goto (tgt := 25) hx hb dX1_result_16 (by decide) ?_
    exact m1_result_J25 X hM hS (lv_sub hl [] rfl) (⟨by decide, by decide⟩) hw
theorem m1_kind_J23 {a1 : Int} {b0 : Int} {V : Mv} {Z : Le} {Q : Po} {PX : Px} (X : Cx E 0 h0 P0 kc0 ks0 S0 A p l R s m args meth c cX1_kind 2 (some .int) 7) (hM : inM V) (hS : HS E 0 h0 P0 kc0 ks0 (sbs []) A s.heap P (toC V) Z H locs cells slots) (hl : lv_has ls 2 [(0, .ref h0), (1, .int (I3 a1))]) (r1 : inR a1) (sr0 : inR b0) (hw : w1_kind_J23 a1 b0 V Z Q PX) : W p l e R s m args below meth c H locs cells slots (MQx below (QT E 0 h0 true P0 kc0 ks0 (sbs []) A (QL Q) (PL PX) s) s) (F0 m 23 ls [.int (I3 b0)]) := by
  have hx := X.2.1
  have hb := X.2.2.1
  unfold w1_kind_J23 at hw
  refine z_needT X hS hM sr0 hw gs1_275 (by omega) hl.1 (Nat.le_of_ble_eq_true rfl) dX1_kind_23 (fun hc hw => ?_)
  refine lv_aload_n hx hb dX1_kind_26 rfl (lv_at hl 0 rfl) ?_
  refine r_ga X hS f1_0 dX1_kind_27 ?_
  refine lv_iload_n hx hb dX1_kind_30 rfl (lv_at hl 1 rfl) ?_
  refine z_id X hS hw gs1_201 (by omega) hl.1 (Nat.le_of_ble_eq_true rfl) dX1_kind_31 (fun h1 hw => ?_)
  refine z_il X hS a1_0 hw dX1_kind_34 (fun hw => ?_)
  exact z_ri X hS hM (hM 0 (-2 - a1)) hw dX1_kind_35
theorem m1_kind_J22 {a1 : Int} {V : Mv} {Z : Le} {Q : Po} {PX : Px} (X : Cx E 0 h0 P0 kc0 ks0 S0 A p l R s m args meth c cX1_kind 2 (some .int) 7) (hM : inM V) (hS : HS E 0 h0 P0 kc0 ks0 (sbs []) A s.heap P (toC V) Z H locs cells slots) (hl : lv_has ls 2 [(0, .ref h0), (1, .int (I3 a1))]) (r1 : inR a1) (hw : w1_kind_J22 a1 V Z Q PX) : W p l e R s m args below meth c H locs cells slots (MQx below (QT E 0 h0 true P0 kc0 ks0 (sbs []) A (QL Q) (PL PX) s) s) (F0 m 22 ls []) := by
  have hx := X.2.1
  have hb := X.2.2.1
  unfold w1_kind_J22 at hw
  refine z_iconst hx hb dX1_kind_22 ?_
  exact m1_kind_J23 X hM hS (lv_sub hl [0, 1] rfl) r1 (⟨by decide, by decide⟩) hw
theorem m1_kind {a1 : Int} {V : Mv} {Z : Le} {Q : Po} {PX : Px} (r1 : inR a1) (hM : inM V) (hw : w1_kind a1 V Z Q PX) : MT l S0 E 0 h0 yX1_kind cX1_kind 2 (some .int) 7 true (sbs []) [.int (I3 a1)] (toC V) Z (QL Q) (PL PX) := by
  refine mt_of Gk0 (by decide) rfl (Nat.le_of_ble_eq_true rfl) ?_
  intro p e s m below meth c A P ls X hS hl
  have hl : lv_has ls 2 [(0, .ref h0), (1, .int (I3 a1))] := hl
  have hx := X.2.1
  have hb := X.2.2.1
  unfold w1_kind at hw
  refine lv_iload_n hx hb dX1_kind_0 rfl (lv_at hl 1 rfl) ?_
  refine z_isO X hS r1 gs1_197 (by omega) hl.1 (Nat.le_of_ble_eq_true rfl) dX1_kind_1 ?_
  refine z_beq (tgt := 22) hx hb  hw dX1_kind_4 (by decide) (fun hc hw => ?_) (fun hc hw => ?_)
  · exact m1_kind_J22 X hM hS (lv_sub hl [0, 1] rfl) r1 hw
  · refine lv_iload_n hx hb dX1_kind_7 rfl (lv_at hl 1 rfl) ?_
    refine z_id X hS hw gs1_201 (by omega) hl.1 (Nat.le_of_ble_eq_true rfl) dX1_kind_8 (fun h2 hw => ?_)
    refine lv_aload_n hx hb dX1_kind_11 rfl (lv_at hl 0 rfl) ?_
    refine z_gi X hS f1_7 dX1_kind_12 ?_
    refine z_ige (tgt := 22) hx hb h2 (hM 7 0) hw dX1_kind_15 (by decide) (fun hc hw => ?_) (fun hc hw => ?_)
    · exact m1_kind_J22 X hM hS (lv_sub hl [0, 1] rfl) r1 hw
    · refine z_iconst hx hb dX1_kind_18 ?_
      refine lv_goto (tgt := 23) hx hb dX1_kind_19 (by decide) ?_
      exact m1_kind_J23 X hM hS (lv_sub hl [0, 1] rfl) r1 (⟨by decide, by decide⟩) hw
theorem m1_part_J92 {a2 : Int} {a3 : Int} {b0 : Int} {V : Mv} {Z : Le} {Q : Po} {PX : Px} (X : Cx E 0 h0 P0 kc0 ks0 S0 A p l R s m args meth c cX1_part 4 (some .int) 7) (hM : inM V) (hS : HS E 0 h0 P0 kc0 ks0 (sbs []) A s.heap P (toC V) Z H locs cells slots) (hl : lv_has ls 4 [(0, .ref h0), (2, .int (I3 a2)), (3, .int (I3 a3))]) (r2 : inR a2) (r3 : inR a3) (sr0 : inR b0) (hw : w1_part_J92 a2 a3 b0 V Z Q PX) : W p l e R s m args below meth c H locs cells slots (MQx below (QT E 0 h0 true P0 kc0 ks0 (sbs []) A (QL Q) (PL PX) s) s) (F0 m 92 ls [.int (I3 b0)]) := by
  have hx := X.2.1
  have hb := X.2.2.1
  unfold w1_part_J92 at hw
  refine z_needT X hS hM sr0 hw gs1_275 (by omega) hl.1 (Nat.le_of_ble_eq_true rfl) dX1_part_92 (fun hc hw => ?_)
  refine lv_aload_n hx hb dX1_part_95 rfl (lv_at hl 0 rfl) ?_
  refine r_ga X hS f1_38 dX1_part_96 ?_
  refine lv_aload_n hx hb dX1_part_99 rfl (lv_at hl 0 rfl) ?_
  refine r_ga X hS f1_1 dX1_part_100 ?_
  refine lv_iload_n hx hb dX1_part_103 rfl (lv_at hl 2 rfl) ?_
  refine z_il X hS a1_1 hw dX1_part_104 (fun hw => ?_)
  refine lv_iload_n hx hb dX1_part_105 rfl (lv_at hl 1 rfl) ?_
  refine z_add hx hb hw dX1_part_106 (fun h1 hw => ?_)
  refine z_il X hS a1_38 hw dX1_part_107 (fun hw => ?_)
  exact z_ri X hS hM (hM 38 (V 1 a3 + a2)) hw dX1_part_108
theorem m1_part_J91 {a2 : Int} {a3 : Int} {V : Mv} {Z : Le} {Q : Po} {PX : Px} (X : Cx E 0 h0 P0 kc0 ks0 S0 A p l R s m args meth c cX1_part 4 (some .int) 7) (hM : inM V) (hS : HS E 0 h0 P0 kc0 ks0 (sbs []) A s.heap P (toC V) Z H locs cells slots) (hl : lv_has ls 4 [(0, .ref h0), (2, .int (I3 a2)), (3, .int (I3 a3))]) (r2 : inR a2) (r3 : inR a3) (hw : w1_part_J91 a2 a3 V Z Q PX) : W p l e R s m args below meth c H locs cells slots (MQx below (QT E 0 h0 true P0 kc0 ks0 (sbs []) A (QL Q) (PL PX) s) s) (F0 m 91 ls []) := by
  have hx := X.2.1
  have hb := X.2.2.1
  unfold w1_part_J91 at hw
  refine z_iconst hx hb dX1_part_91 ?_
  exact m1_part_J92 X hM hS (lv_sub hl [0, 1, 2] rfl) r2 r3 (⟨by decide, by decide⟩) hw
theorem m1_part_J61 {a2 : Int} {a3 : Int} {V : Mv} {Z : Le} {Q : Po} {PX : Px} (X : Cx E 0 h0 P0 kc0 ks0 S0 A p l R s m args meth c cX1_part 4 (some .int) 7) (hM : inM V) (hS : HS E 0 h0 P0 kc0 ks0 (sbs []) A s.heap P (toC V) Z H locs cells slots) (hl : lv_has ls 4 [(0, .ref h0), (2, .int (I3 a2)), (3, .int (I3 a3))]) (r2 : inR a2) (r3 : inR a3) (hw : w1_part_J61 a2 a3 V Z Q PX) : W p l e R s m args below meth c H locs cells slots (MQx below (QT E 0 h0 true P0 kc0 ks0 (sbs []) A (QL Q) (PL PX) s) s) (F0 m 61 ls []) := by
  have hx := X.2.1
  have hb := X.2.2.1
  unfold w1_part_J61 at hw
  refine lv_iload_n hx hb dX1_part_61 rfl (lv_at hl 1 rfl) ?_
  refine z_iconst hx hb dX1_part_62 ?_
  refine z_ine (tgt := 73) hx hb r2 (⟨by decide, by decide⟩) hw dX1_part_63 (by decide) (fun hc hw => ?_) (fun hc hw => ?_)
  · refine lv_iload_n hx hb dX1_part_73 rfl (lv_at hl 1 rfl) ?_
    refine z_zlt (tgt := 91) hx hb r2 hw dX1_part_74 (by decide) (fun hc hw => ?_) (fun hc hw => ?_)
    · exact m1_part_J91 X hM hS (lv_sub hl [0, 1, 2] rfl) r2 r3 hw
    · refine lv_iload_n hx hb dX1_part_77 rfl (lv_at hl 1 rfl) ?_
      refine lv_aload_n hx hb dX1_part_78 rfl (lv_at hl 0 rfl) ?_
      refine r_ga X hS f1_2 dX1_part_79 ?_
      refine lv_iload_n hx hb dX1_part_82 rfl (lv_at hl 2 rfl) ?_
      refine z_il X hS a1_2 hw dX1_part_83 (fun hw => ?_)
      refine z_ige (tgt := 91) hx hb r2 (hM 2 a3) hw dX1_part_84 (by decide) (fun hc hw => ?_) (fun hc hw => ?_)
      · exact m1_part_J91 X hM hS (lv_sub hl [0, 1, 2] rfl) r2 r3 hw
      · refine z_iconst hx hb dX1_part_87 ?_
        refine lv_goto (tgt := 92) hx hb dX1_part_88 (by decide) ?_
        exact m1_part_J92 X hM hS (lv_sub hl [0, 1, 2] rfl) r2 r3 (⟨by decide, by decide⟩) hw
  · refine lv_aload_n hx hb dX1_part_66 rfl (lv_at hl 0 rfl) ?_
    refine r_ga X hS f1_2 dX1_part_67 ?_
    refine lv_iload_n hx hb dX1_part_70 rfl (lv_at hl 2 rfl) ?_
    refine z_il X hS a1_2 hw dX1_part_71 (fun hw => ?_)
    exact z_ri X hS hM (hM 2 a3) hw dX1_part_72
theorem m1_part_J36 {a1 : Int} {a2 : Int} {b0 : Int} {V : Mv} {Z : Le} {Q : Po} {PX : Px} (X : Cx E 0 h0 P0 kc0 ks0 S0 A p l R s m args meth c cX1_part 4 (some .int) 7) (hM : inM V) (hS : HS E 0 h0 P0 kc0 ks0 (sbs []) A s.heap P (toC V) Z H locs cells slots) (hl : lv_has ls 4 [(0, .ref h0), (1, .int (I3 a1)), (2, .int (I3 a2))]) (r1 : inR a1) (r2 : inR a2) (sr0 : inR b0) (hw : w1_part_J36 a1 a2 b0 V Z Q PX) : W p l e R s m args below meth c H locs cells slots (MQx below (QT E 0 h0 true P0 kc0 ks0 (sbs []) A (QL Q) (PL PX) s) s) (F0 m 36 ls [.int (I3 b0)]) := by
  have hx := X.2.1
  have hb := X.2.2.1
  unfold w1_part_J36 at hw
  refine z_needT X hS hM sr0 hw gs1_275 (by omega) hl.1 (Nat.le_of_ble_eq_true rfl) dX1_part_36 (fun hc hw => ?_)
  refine lv_iload_n hx hb dX1_part_39 rfl (lv_at hl 1 rfl) ?_
  refine z_id X hS hw gs1_201 (by omega) hl.1 (Nat.le_of_ble_eq_true rfl) dX1_part_40 (fun h2 hw => ?_)
  refine lv_istore_n (lv' := [(3, .int (I3 (-2 - a1))), (0, .ref h0), (1, .int (I3 a1)), (2, .int (I3 a2))]) hx hb dX1_part_43 rfl hl (by decide) rfl (fun ls hl => ?_)
  refine lv_aload_n hx hb dX1_part_44 rfl (lv_at hl 1 rfl) ?_
  refine r_ga X hS f1_0 dX1_part_45 ?_
  refine lv_iload_n hx hb dX1_part_48 rfl (lv_at hl 0 rfl) ?_
  refine z_il X hS a1_0 hw dX1_part_49 (fun hw => ?_)
  refine z_iconst hx hb dX1_part_50 ?_
  refine z_ine (tgt := 61) hx hb (hM 0 (-2 - a1)) (⟨by decide, by decide⟩) hw dX1_part_51 (by decide) (fun hc hw => ?_) (fun hc hw => ?_)
  · exact m1_part_J61 X hM hS (lv_sub hl [1, 3, 0] rfl) r2 h2 hw
  · refine lv_aload_n hx hb dX1_part_54 rfl (lv_at hl 1 rfl) ?_
    refine r_ga X hS f1_1 dX1_part_55 ?_
    refine lv_iload_n hx hb dX1_part_58 rfl (lv_at hl 0 rfl) ?_
    refine z_il X hS a1_1 hw dX1_part_59 (fun hw => ?_)
    refine lv_istore_n (lv' := [(3, .int (I3 (V 1 (-2 - a1)))), (0, .ref h0), (1, .int (I3 a1)), (2, .int (I3 a2))]) hx hb dX1_part_60 rfl hl (by decide) rfl (fun ls hl => ?_)
    exact m1_part_J61 X hM hS (lv_sub hl [1, 3, 0] rfl) r2 (hM 1 (-2 - a1)) hw
theorem m1_part_J35 {a1 : Int} {a2 : Int} {V : Mv} {Z : Le} {Q : Po} {PX : Px} (X : Cx E 0 h0 P0 kc0 ks0 S0 A p l R s m args meth c cX1_part 4 (some .int) 7) (hM : inM V) (hS : HS E 0 h0 P0 kc0 ks0 (sbs []) A s.heap P (toC V) Z H locs cells slots) (hl : lv_has ls 4 [(0, .ref h0), (1, .int (I3 a1)), (2, .int (I3 a2))]) (r1 : inR a1) (r2 : inR a2) (hw : w1_part_J35 a1 a2 V Z Q PX) : W p l e R s m args below meth c H locs cells slots (MQx below (QT E 0 h0 true P0 kc0 ks0 (sbs []) A (QL Q) (PL PX) s) s) (F0 m 35 ls []) := by
  have hx := X.2.1
  have hb := X.2.2.1
  unfold w1_part_J35 at hw
  refine z_iconst hx hb dX1_part_35 ?_
  exact m1_part_J36 X hM hS (lv_sub hl [0, 1, 2] rfl) r1 r2 (⟨by decide, by decide⟩) hw
theorem m1_part {a1 : Int} {a2 : Int} {V : Mv} {Z : Le} {Q : Po} {PX : Px} (r1 : inR a1) (r2 : inR a2) (hM : inM V) (hw : w1_part a1 a2 V Z Q PX) : MT l S0 E 0 h0 yX1_part cX1_part 4 (some .int) 7 true (sbs []) [.int (I3 a1), .int (I3 a2)] (toC V) Z (QL Q) (PL PX) := by
  refine mt_of Gk0 (by decide) rfl (Nat.le_of_ble_eq_true rfl) ?_
  intro p e s m below meth c A P ls X hS hl
  have hl : lv_has ls 4 [(0, .ref h0), (1, .int (I3 a1)), (2, .int (I3 a2))] := hl
  have hx := X.2.1
  have hb := X.2.2.1
  unfold w1_part at hw
  refine lv_iload_n hx hb dX1_part_0 rfl (lv_at hl 1 rfl) ?_
  refine z_isO X hS r1 gs1_197 (by omega) hl.1 (Nat.le_of_ble_eq_true rfl) dX1_part_1 ?_
  refine z_beq (tgt := 35) hx hb  hw dX1_part_4 (by decide) (fun hc hw => ?_) (fun hc hw => ?_)
  · exact m1_part_J35 X hM hS (lv_sub hl [0, 1, 2] rfl) r1 r2 hw
  · refine lv_iload_n hx hb dX1_part_7 rfl (lv_at hl 1 rfl) ?_
    refine z_id X hS hw gs1_201 (by omega) hl.1 (Nat.le_of_ble_eq_true rfl) dX1_part_8 (fun h3 hw => ?_)
    refine lv_aload_n hx hb dX1_part_11 rfl (lv_at hl 0 rfl) ?_
    refine z_gi X hS f1_7 dX1_part_12 ?_
    refine z_ige (tgt := 35) hx hb h3 (hM 7 0) hw dX1_part_15 (by decide) (fun hc hw => ?_) (fun hc hw => ?_)
    · exact m1_part_J35 X hM hS (lv_sub hl [0, 1, 2] rfl) r1 r2 hw
    · refine lv_aload_n hx hb dX1_part_18 rfl (lv_at hl 0 rfl) ?_
      refine r_ga X hS f1_0 dX1_part_19 ?_
      refine lv_iload_n hx hb dX1_part_22 rfl (lv_at hl 1 rfl) ?_
      refine z_id X hS hw gs1_201 (by omega) hl.1 (Nat.le_of_ble_eq_true rfl) dX1_part_23 (fun h4 hw => ?_)
      refine z_il X hS a1_0 hw dX1_part_26 (fun hw => ?_)
      refine z_iconst hx hb dX1_part_27 ?_
      refine z_ilt (tgt := 35) hx hb (hM 0 (-2 - a1)) (⟨by decide, by decide⟩) hw dX1_part_28 (by decide) (fun hc hw => ?_) (fun hc hw => ?_)
      · exact m1_part_J35 X hM hS (lv_sub hl [0, 1, 2] rfl) r1 r2 hw
      · refine z_iconst hx hb dX1_part_31 ?_
        refine lv_goto (tgt := 36) hx hb dX1_part_32 (by decide) ?_
        exact m1_part_J36 X hM hS (lv_sub hl [0, 1, 2] rfl) r1 r2 (⟨by decide, by decide⟩) hw
theorem m1_log_J12 {V : Mv} {Z : Le} {Q : Po} {PX : Px} (X : Cx E 0 h0 P0 kc0 ks0 S0 A p l R s m args meth c cX1_log 3 (some .int) 1) (hM : inM V) (hS : HS E 0 h0 P0 kc0 ks0 (sbs []) A s.heap P (toC V) Z H locs cells slots) (hl : lv_has ls 3 []) (hw : w1_log_J12  V Z Q) : W p l e R s m args below meth c H locs cells slots (MQx below (QT E 0 h0 true P0 kc0 ks0 (sbs []) A (QL Q) (PL PX) s) s) (F0 m 12 ls []) := by
  have hx := X.2.1
  have hb := X.2.2.1
  unfold w1_log_J12 at hw
  refine z_ldc1 X dX1_log_12 ?_
  exact z_ri X hS hM (⟨by decide, by decide⟩) hw dX1_log_15
theorem m1_log_J35 {b0 : Int} {V : Mv} {Z : Le} {Q : Po} {PX : Px} (X : Cx E 0 h0 P0 kc0 ks0 S0 A p l R s m args meth c cX1_log 3 (some .int) 1) (hM : inM V) (hS : HS E 0 h0 P0 kc0 ks0 (sbs []) A s.heap P (toC V) Z H locs cells slots) (hl : lv_has ls 3 []) (sr0 : inR b0) (hw : w1_log_J35 b0 V Z Q) : W p l e R s m args below meth c H locs cells slots (MQx below (QT E 0 h0 true P0 kc0 ks0 (sbs []) A (QL Q) (PL PX) s) s) (F0 m 35 ls [.int (I3 b0)]) := by
  have hx := X.2.1
  have hb := X.2.2.1
  unfold w1_log_J35 at hw
  exact z_ri X hS hM sr0 hw dX1_log_35
theorem m1_log {a1 : Int} {a2 : Int} {V : Mv} {Z : Le} {Q : Po} {PX : Px} (r1 : inR a1) (r2 : inR a2) (hM : inM V) (hw : w1_log a1 a2 V Z Q) : MT l S0 E 0 h0 yX1_log cX1_log 3 (some .int) 1 true (sbs []) [.int (I3 a1), .int (I3 a2)] (toC V) Z (QL Q) (PL PX) := by
  refine mt_of Gk0 (by decide) rfl (Nat.le_of_ble_eq_true rfl) ?_
  intro p e s m below meth c A P ls X hS hl
  have hl : lv_has ls 3 [(0, .ref h0), (1, .int (I3 a1)), (2, .int (I3 a2))] := hl
  have hx := X.2.1
  have hb := X.2.2.1
  unfold w1_log at hw
  refine lv_iload_n hx hb dX1_log_0 rfl (lv_at hl 1 rfl) ?_
  refine z_zlt (tgt := 12) hx hb r1 hw dX1_log_1 (by decide) (fun hc hw => ?_) (fun hc hw => ?_)
  · exact m1_log_J12 X hM hS (lv_sub hl [] rfl)  hw
  · refine lv_iload_n hx hb dX1_log_4 rfl (lv_at hl 1 rfl) ?_
    refine lv_aload_n hx hb dX1_log_5 rfl (lv_at hl 0 rfl) ?_
    refine z_gi X hS f1_53 dX1_log_6 ?_
    refine z_ilt (tgt := 16) hx hb r1 (hM 53 0) hw dX1_log_9 (by decide) (fun hc hw => ?_) (fun hc hw => ?_)
    · refine lv_iload_n hx hb dX1_log_16 rfl (lv_at hl 2 rfl) ?_
      refine z_zeq (tgt := 29) hx hb r2 hw dX1_log_17 (by decide) (fun hc hw => ?_) (fun hc hw => ?_)
      · refine lv_aload_n hx hb dX1_log_29 rfl (lv_at hl 0 rfl) ?_
        refine r_ga X hS f1_51 dX1_log_30 ?_
        refine lv_iload_n hx hb dX1_log_33 rfl (lv_at hl 1 rfl) ?_
        refine z_il X hS a1_51 hw dX1_log_34 (fun hw => ?_)
        exact m1_log_J35 X hM hS (lv_sub hl [] rfl) (hM 51 a1) hw
      · refine lv_aload_n hx hb dX1_log_20 rfl (lv_at hl 0 rfl) ?_
        refine r_ga X hS f1_52 dX1_log_21 ?_
        refine lv_iload_n hx hb dX1_log_24 rfl (lv_at hl 1 rfl) ?_
        refine z_il X hS a1_52 hw dX1_log_25 (fun hw => ?_)
        refine lv_goto (tgt := 35) hx hb dX1_log_26 (by decide) ?_
        exact m1_log_J35 X hM hS (lv_sub hl [] rfl) (hM 52 a1) hw
    · exact m1_log_J12 X hM hS (lv_sub hl [] rfl)  hw
end WALK
