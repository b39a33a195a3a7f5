set_option maxRecDepth 100000
theorem dX1_job_0 : decode cX1_job 0 = .ok (.aload_n 0, 1) := by decide +kernel
theorem dX1_job_1 : decode cX1_job 1 = .ok (.getfield 90, 3) := by decide +kernel
theorem dX1_job_4 : decode cX1_job 4 = .ok (.iload_n 1, 1) := by decide +kernel
theorem dX1_job_5 : decode cX1_job 5 = .ok (.iaload, 1) := by decide +kernel
theorem dX1_job_6 : decode cX1_job 6 = .ok (.istore_n 2, 1) := by decide +kernel
theorem dX1_job_7 : decode cX1_job 7 = .ok (.aload_n 0, 1) := by decide +kernel
theorem dX1_job_8 : decode cX1_job 8 = .ok (.getfield 93, 3) := by decide +kernel
theorem dX1_job_11 : decode cX1_job 11 = .ok (.iload_n 1, 1) := by decide +kernel
theorem dX1_job_12 : decode cX1_job 12 = .ok (.iaload, 1) := by decide +kernel
theorem dX1_job_13 : decode cX1_job 13 = .ok (.istore_n 3, 1) := by decide +kernel
theorem dX1_job_14 : decode cX1_job 14 = .ok (.aload_n 0, 1) := by decide +kernel
theorem dX1_job_15 : decode cX1_job 15 = .ok (.getfield 96, 3) := by decide +kernel
theorem dX1_job_18 : decode cX1_job 18 = .ok (.iload_n 1, 1) := by decide +kernel
theorem dX1_job_19 : decode cX1_job 19 = .ok (.iaload, 1) := by decide +kernel
theorem dX1_job_20 : decode cX1_job 20 = .ok (.istore 4, 2) := by decide +kernel
theorem dX1_job_22 : decode cX1_job 22 = .ok (.iload_n 2, 1) := by decide +kernel
theorem dX1_job_23 : decode cX1_job 23 = .ok (.ifCond .ge 72, 3) := by decide +kernel
theorem dX1_job_26 : decode cX1_job 26 = .ok (.iconst (-1), 1) := by decide +kernel
theorem dX1_job_27 : decode cX1_job 27 = .ok (.iload_n 2, 1) := by decide +kernel
theorem dX1_job_28 : decode cX1_job 28 = .ok (.isub, 1) := by decide +kernel
theorem dX1_job_29 : decode cX1_job 29 = .ok (.istore 5, 2) := by decide +kernel
theorem dX1_job_31 : decode cX1_job 31 = .ok (.aload_n 0, 1) := by decide +kernel
theorem dX1_job_32 : decode cX1_job 32 = .ok (.iload_n 3, 1) := by decide +kernel
theorem dX1_job_33 : decode cX1_job 33 = .ok (.invokevirtual 207, 3) := by decide +kernel
theorem dX1_job_36 : decode cX1_job 36 = .ok (.istore 6, 2) := by decide +kernel
theorem dX1_job_38 : decode cX1_job 38 = .ok (.aload_n 0, 1) := by decide +kernel
theorem dX1_job_39 : decode cX1_job 39 = .ok (.getfield 9, 3) := by decide +kernel
theorem dX1_job_42 : decode cX1_job 42 = .ok (.iload 5, 2) := by decide +kernel
theorem dX1_job_44 : decode cX1_job 44 = .ok (.iaload, 1) := by decide +kernel
theorem dX1_job_45 : decode cX1_job 45 = .ok (.ifCond .ne 17, 3) := by decide +kernel
theorem dX1_job_48 : decode cX1_job 48 = .ok (.aload_n 0, 1) := by decide +kernel
theorem dX1_job_49 : decode cX1_job 49 = .ok (.iload 5, 2) := by decide +kernel
theorem dX1_job_51 : decode cX1_job 51 = .ok (.iload 6, 2) := by decide +kernel
theorem dX1_job_53 : decode cX1_job 53 = .ok (.iload 6, 2) := by decide +kernel
theorem dX1_job_55 : decode cX1_job 55 = .ok (.iconst 1, 1) := by decide +kernel
theorem dX1_job_56 : decode cX1_job 56 = .ok (.iadd, 1) := by decide +kernel
theorem dX1_job_57 : decode cX1_job 57 = .ok (.invokevirtual 234, 3) := by decide +kernel
theorem dX1_job_60 : decode cX1_job 60 = .ok (.pop, 1) := by decide +kernel
theorem dX1_job_61 : decode cX1_job 61 = .ok (.return_, 1) := by decide +kernel
theorem dX1_job_62 : decode cX1_job 62 = .ok (.aload_n 0, 1) := by decide +kernel
theorem dX1_job_63 : decode cX1_job 63 = .ok (.iload 5, 2) := by decide +kernel
theorem dX1_job_65 : decode cX1_job 65 = .ok (.iload 6, 2) := by decide +kernel
theorem dX1_job_67 : decode cX1_job 67 = .ok (.iload 6, 2) := by decide +kernel
theorem dX1_job_69 : decode cX1_job 69 = .ok (.iconst 1, 1) := by decide +kernel
theorem dX1_job_70 : decode cX1_job 70 = .ok (.iadd, 1) := by decide +kernel
theorem dX1_job_71 : decode cX1_job 71 = .ok (.invokevirtual 263, 3) := by decide +kernel
theorem dX1_job_74 : decode cX1_job 74 = .ok (.aload_n 0, 1) := by decide +kernel
theorem dX1_job_75 : decode cX1_job 75 = .ok (.getfield 163, 3) := by decide +kernel
theorem dX1_job_78 : decode cX1_job 78 = .ok (.ifCond .eq 16, 3) := by decide +kernel
theorem dX1_job_81 : decode cX1_job 81 = .ok (.aload_n 0, 1) := by decide +kernel
theorem dX1_job_82 : decode cX1_job 82 = .ok (.iload 6, 2) := by decide +kernel
theorem dX1_job_84 : decode cX1_job 84 = .ok (.iconst 1, 1) := by decide +kernel
theorem dX1_job_85 : decode cX1_job 85 = .ok (.iadd, 1) := by decide +kernel
theorem dX1_job_86 : decode cX1_job 86 = .ok (.aload_n 0, 1) := by decide +kernel
theorem dX1_job_87 : decode cX1_job 87 = .ok (.getfield 260, 3) := by decide +kernel
theorem dX1_job_90 : decode cX1_job 90 = .ok (.invokevirtual 218, 3) := by decide +kernel
theorem dX1_job_93 : decode cX1_job 93 = .ok (.pop, 1) := by decide +kernel
theorem dX1_job_94 : decode cX1_job 94 = .ok (.return_, 1) := by decide +kernel
theorem dX1_job_95 : decode cX1_job 95 = .ok (.aload_n 0, 1) := by decide +kernel
theorem dX1_job_96 : decode cX1_job 96 = .ok (.getfield 80, 3) := by decide +kernel
theorem dX1_job_99 : decode cX1_job 99 = .ok (.iload_n 2, 1) := by decide +kernel
theorem dX1_job_100 : decode cX1_job 100 = .ok (.iaload, 1) := by decide +kernel
theorem dX1_job_101 : decode cX1_job 101 = .ok (.ifCond .lt 17, 3) := by decide +kernel
theorem dX1_job_104 : decode cX1_job 104 = .ok (.aload_n 0, 1) := by decide +kernel
theorem dX1_job_105 : decode cX1_job 105 = .ok (.aload_n 0, 1) := by decide +kernel
theorem dX1_job_106 : decode cX1_job 106 = .ok (.getfield 80, 3) := by decide +kernel
theorem dX1_job_109 : decode cX1_job 109 = .ok (.iload_n 2, 1) := by decide +kernel
theorem dX1_job_110 : decode cX1_job 110 = .ok (.iaload, 1) := by decide +kernel
theorem dX1_job_111 : decode cX1_job 111 = .ok (.iload_n 3, 1) := by decide +kernel
theorem dX1_job_112 : decode cX1_job 112 = .ok (.iload 4, 2) := by decide +kernel
theorem dX1_job_114 : decode cX1_job 114 = .ok (.invokevirtual 266, 3) := by decide +kernel
theorem dX1_job_117 : decode cX1_job 117 = .ok (.return_, 1) := by decide +kernel
theorem dX1_job_118 : decode cX1_job 118 = .ok (.iload_n 3, 1) := by decide +kernel
theorem dX1_job_119 : decode cX1_job 119 = .ok (.iconst 1, 1) := by decide +kernel
theorem dX1_job_120 : decode cX1_job 120 = .ok (.if_icmp .ne 12, 3) := by decide +kernel
theorem dX1_job_123 : decode cX1_job 123 = .ok (.aload_n 0, 1) := by decide +kernel
theorem dX1_job_124 : decode cX1_job 124 = .ok (.getfield 68, 3) := by decide +kernel
theorem dX1_job_127 : decode cX1_job 127 = .ok (.iload_n 2, 1) := by decide +kernel
theorem dX1_job_128 : decode cX1_job 128 = .ok (.iaload, 1) := by decide +kernel
theorem dX1_job_129 : decode cX1_job 129 = .ok (.goto 9, 3) := by decide +kernel
theorem dX1_job_132 : decode cX1_job 132 = .ok (.aload_n 0, 1) := by decide +kernel
theorem dX1_job_133 : decode cX1_job 133 = .ok (.getfield 71, 3) := by decide +kernel
theorem dX1_job_136 : decode cX1_job 136 = .ok (.iload_n 2, 1) := by decide +kernel
theorem dX1_job_137 : decode cX1_job 137 = .ok (.iaload, 1) := by decide +kernel
theorem dX1_job_138 : decode cX1_job 138 = .ok (.istore 5, 2) := by decide +kernel
theorem dX1_job_140 : decode cX1_job 140 = .ok (.iload 5, 2) := by decide +kernel
theorem dX1_job_142 : decode cX1_job 142 = .ok (.ifCond .ge 12, 3) := by decide +kernel
theorem dX1_job_145 : decode cX1_job 145 = .ok (.iload_n 3, 1) := by decide +kernel
theorem dX1_job_146 : decode cX1_job 146 = .ok (.iconst 2, 1) := by decide +kernel
theorem dX1_job_147 : decode cX1_job 147 = .ok (.if_icmp .ne 7, 3) := by decide +kernel
theorem dX1_job_150 : decode cX1_job 150 = .ok (.iconst 1, 1) := by decide +kernel
theorem dX1_job_151 : decode cX1_job 151 = .ok (.goto 4, 3) := by decide +kernel
theorem dX1_job_154 : decode cX1_job 154 = .ok (.iconst 0, 1) := by decide +kernel
theorem dX1_job_155 : decode cX1_job 155 = .ok (.istore 6, 2) := by decide +kernel
theorem dX1_job_157 : decode cX1_job 157 = .ok (.iload 4, 2) := by decide +kernel
theorem dX1_job_159 : decode cX1_job 159 = .ok (.istore 7, 2) := by decide +kernel
theorem dX1_job_161 : decode cX1_job 161 = .ok (.iload 5, 2) := by decide +kernel
theorem dX1_job_163 : decode cX1_job 163 = .ok (.ifCond .lt 19, 3) := by decide +kernel
theorem dX1_job_166 : decode cX1_job 166 = .ok (.aload_n 0, 1) := by decide +kernel
theorem dX1_job_167 : decode cX1_job 167 = .ok (.iload 5, 2) := by decide +kernel
theorem dX1_job_169 : decode cX1_job 169 = .ok (.iload 4, 2) := by decide +kernel
theorem dX1_job_171 : decode cX1_job 171 = .ok (.invokevirtual 218, 3) := by decide +kernel
theorem dX1_job_174 : decode cX1_job 174 = .ok (.istore 7, 2) := by decide +kernel
theorem dX1_job_176 : decode cX1_job 176 = .ok (.aload_n 0, 1) := by decide +kernel
theorem dX1_job_177 : decode cX1_job 177 = .ok (.getfield 163, 3) := by decide +kernel
theorem dX1_job_180 : decode cX1_job 180 = .ok (.istore 6, 2) := by decide +kernel
theorem dX1_job_182 : decode cX1_job 182 = .ok (.aload_n 0, 1) := by decide +kernel
theorem dX1_job_183 : decode cX1_job 183 = .ok (.getfield 74, 3) := by decide +kernel
theorem dX1_job_186 : decode cX1_job 186 = .ok (.iload_n 2, 1) := by decide +kernel
theorem dX1_job_187 : decode cX1_job 187 = .ok (.iaload, 1) := by decide +kernel
theorem dX1_job_188 : decode cX1_job 188 = .ok (.ifCond .lt 30, 3) := by decide +kernel
theorem dX1_job_191 : decode cX1_job 191 = .ok (.aload_n 0, 1) := by decide +kernel
theorem dX1_job_192 : decode cX1_job 192 = .ok (.iload 6, 2) := by decide +kernel
theorem dX1_job_194 : decode cX1_job 194 = .ok (.ifCond .eq 12, 3) := by decide +kernel
theorem dX1_job_197 : decode cX1_job 197 = .ok (.aload_n 0, 1) := by decide +kernel
theorem dX1_job_198 : decode cX1_job 198 = .ok (.getfield 77, 3) := by decide +kernel
theorem dX1_job_201 : decode cX1_job 201 = .ok (.iload_n 2, 1) := by decide +kernel
theorem dX1_job_202 : decode cX1_job 202 = .ok (.iaload, 1) := by decide +kernel
theorem dX1_job_203 : decode cX1_job 203 = .ok (.goto 9, 3) := by decide +kernel
theorem dX1_job_206 : decode cX1_job 206 = .ok (.aload_n 0, 1) := by decide +kernel
theorem dX1_job_207 : decode cX1_job 207 = .ok (.getfield 74, 3) := by decide +kernel
theorem dX1_job_210 : decode cX1_job 210 = .ok (.iload_n 2, 1) := by decide +kernel
theorem dX1_job_211 : decode cX1_job 211 = .ok (.iaload, 1) := by decide +kernel
theorem dX1_job_212 : decode cX1_job 212 = .ok (.iload 7, 2) := by decide +kernel
theorem dX1_job_214 : decode cX1_job 214 = .ok (.invokevirtual 218, 3) := by decide +kernel
theorem dX1_job_217 : decode cX1_job 217 = .ok (.pop, 1) := by decide +kernel
theorem dX1_job_218 : decode cX1_job 218 = .ok (.return_, 1) := by decide +kernel
theorem dX1_room_0 : decode cX1_room 0 = .ok (.aload_n 0, 1) := by decide +kernel
theorem dX1_room_1 : decode cX1_room 1 = .ok (.getfield 138, 3) := by decide +kernel
theorem dX1_room_4 : decode cX1_room 4 = .ok (.iload_n 1, 1) := by decide +kernel
theorem dX1_room_5 : decode cX1_room 5 = .ok (.iadd, 1) := by decide +kernel
theorem dX1_room_6 : decode cX1_room 6 = .ok (.sipush 3000, 3) := by decide +kernel
theorem dX1_room_9 : decode cX1_room 9 = .ok (.if_icmp .le 11, 3) := by decide +kernel
theorem dX1_room_12 : decode cX1_room 12 = .ok (.new 272, 3) := by decide +kernel
theorem dX1_room_15 : decode cX1_room 15 = .ok (.dup, 1) := by decide +kernel
theorem dX1_room_16 : decode cX1_room 16 = .ok (.invokespecial 274, 3) := by decide +kernel
theorem dX1_room_19 : decode cX1_room 19 = .ok (.athrow, 1) := by decide +kernel
theorem dX1_room_20 : decode cX1_room 20 = .ok (.return_, 1) := by decide +kernel
theorem dX1_isValue_0 : decode cX1_isValue 0 = .ok (.iload_n 1, 1) := by decide +kernel
theorem dX1_isValue_1 : decode cX1_isValue 1 = .ok (.iconst (-1), 1) := by decide +kernel
theorem dX1_isValue_2 : decode cX1_isValue 2 = .ok (.if_icmp .lt 18, 3) := by decide +kernel
theorem dX1_isValue_5 : decode cX1_isValue 5 = .ok (.iload_n 1, 1) := by decide +kernel
theorem dX1_isValue_6 : decode cX1_isValue 6 = .ok (.sipush 1000, 3) := by decide +kernel
theorem dX1_isValue_9 : decode cX1_isValue 9 = .ok (.if_icmp .ge 7, 3) := by decide +kernel
theorem dX1_isValue_12 : decode cX1_isValue 12 = .ok (.iconst 1, 1) := by decide +kernel
theorem dX1_isValue_13 : decode cX1_isValue 13 = .ok (.goto 23, 3) := by decide +kernel
theorem dX1_isValue_16 : decode cX1_isValue 16 = .ok (.iconst 0, 1) := by decide +kernel
theorem dX1_isValue_17 : decode cX1_isValue 17 = .ok (.goto 19, 3) := by decide +kernel
theorem dX1_isValue_20 : decode cX1_isValue 20 = .ok (.iload_n 1, 1) := by decide +kernel
theorem dX1_isValue_21 : decode cX1_isValue 21 = .ok (.invokestatic 201, 3) := by decide +kernel
theorem dX1_isValue_24 : decode cX1_isValue 24 = .ok (.aload_n 0, 1) := by decide +kernel
theorem dX1_isValue_25 : decode cX1_isValue 25 = .ok (.getfield 138, 3) := by decide +kernel
theorem dX1_isValue_28 : decode cX1_isValue 28 = .ok (.if_icmp .ge 7, 3) := by decide +kernel
theorem dX1_isValue_31 : decode cX1_isValue 31 = .ok (.iconst 1, 1) := by decide +kernel
theorem dX1_isValue_32 : decode cX1_isValue 32 = .ok (.goto 4, 3) := by decide +kernel
theorem dX1_isValue_35 : decode cX1_isValue 35 = .ok (.iconst 0, 1) := by decide +kernel
theorem dX1_isValue_36 : decode cX1_isValue 36 = .ok (.ireturn, 1) := by decide +kernel
theorem dX1_promiseOf_0 : decode cX1_promiseOf 0 = .ok (.iload_n 1, 1) := by decide +kernel
theorem dX1_promiseOf_1 : decode cX1_promiseOf 1 = .ok (.invokestatic 197, 3) := by decide +kernel
theorem dX1_promiseOf_4 : decode cX1_promiseOf 4 = .ok (.ifCond .eq 30, 3) := by decide +kernel
theorem dX1_promiseOf_7 : decode cX1_promiseOf 7 = .ok (.iload_n 1, 1) := by decide +kernel
theorem dX1_promiseOf_8 : decode cX1_promiseOf 8 = .ok (.invokestatic 201, 3) := by decide +kernel
theorem dX1_promiseOf_11 : decode cX1_promiseOf 11 = .ok (.aload_n 0, 1) := by decide +kernel
theorem dX1_promiseOf_12 : decode cX1_promiseOf 12 = .ok (.getfield 138, 3) := by decide +kernel
theorem dX1_promiseOf_15 : decode cX1_promiseOf 15 = .ok (.if_icmp .ge 19, 3) := by decide +kernel
theorem dX1_promiseOf_18 : decode cX1_promiseOf 18 = .ok (.aload_n 0, 1) := by decide +kernel
theorem dX1_promiseOf_19 : decode cX1_promiseOf 19 = .ok (.getfield 9, 3) := by decide +kernel
theorem dX1_promiseOf_22 : decode cX1_promiseOf 22 = .ok (.iload_n 1, 1) := by decide +kernel
theorem dX1_promiseOf_23 : decode cX1_promiseOf 23 = .ok (.invokestatic 201, 3) := by decide +kernel
theorem dX1_promiseOf_26 : decode cX1_promiseOf 26 = .ok (.iaload, 1) := by decide +kernel
theorem dX1_promiseOf_27 : decode cX1_promiseOf 27 = .ok (.ifCond .ne 7, 3) := by decide +kernel
theorem dX1_promiseOf_30 : decode cX1_promiseOf 30 = .ok (.iconst 1, 1) := by decide +kernel
theorem dX1_promiseOf_31 : decode cX1_promiseOf 31 = .ok (.goto 4, 3) := by decide +kernel
theorem dX1_promiseOf_34 : decode cX1_promiseOf 34 = .ok (.iconst 0, 1) := by decide +kernel
theorem dX1_promiseOf_35 : decode cX1_promiseOf 35 = .ok (.invokestatic 275, 3) := by decide +kernel
theorem dX1_promiseOf_38 : decode cX1_promiseOf 38 = .ok (.iload_n 1, 1) := by decide +kernel
theorem dX1_promiseOf_39 : decode cX1_promiseOf 39 = .ok (.invokestatic 201, 3) := by decide +kernel
theorem dX1_promiseOf_42 : decode cX1_promiseOf 42 = .ok (.ireturn, 1) := by decide +kernel
theorem dX1_handlerOf_0 : decode cX1_handlerOf 0 = .ok (.iload_n 1, 1) := by decide +kernel
theorem dX1_handlerOf_1 : decode cX1_handlerOf 1 = .ok (.iconst (-1), 1) := by decide +kernel
theorem dX1_handlerOf_2 : decode cX1_handlerOf 2 = .ok (.if_icmp .lt 15, 3) := by decide +kernel
theorem dX1_handlerOf_5 : decode cX1_handlerOf 5 = .ok (.iload_n 1, 1) := by decide +kernel
theorem dX1_handlerOf_6 : decode cX1_handlerOf 6 = .ok (.aload_n 0, 1) := by decide +kernel
theorem dX1_handlerOf_7 : decode cX1_handlerOf 7 = .ok (.getfield 279, 3) := by decide +kernel
theorem dX1_handlerOf_10 : decode cX1_handlerOf 10 = .ok (.if_icmp .ge 7, 3) := by decide +kernel
theorem dX1_handlerOf_13 : decode cX1_handlerOf 13 = .ok (.iconst 1, 1) := by decide +kernel
theorem dX1_handlerOf_14 : decode cX1_handlerOf 14 = .ok (.goto 4, 3) := by decide +kernel
theorem dX1_handlerOf_17 : decode cX1_handlerOf 17 = .ok (.iconst 0, 1) := by decide +kernel
theorem dX1_handlerOf_18 : decode cX1_handlerOf 18 = .ok (.invokestatic 275, 3) := by decide +kernel
theorem dX1_handlerOf_21 : decode cX1_handlerOf 21 = .ok (.iload_n 1, 1) := by decide +kernel
theorem dX1_handlerOf_22 : decode cX1_handlerOf 22 = .ok (.ifCond .ge 7, 3) := by decide +kernel
theorem dX1_handlerOf_25 : decode cX1_handlerOf 25 = .ok (.iconst (-1), 1) := by decide +kernel
theorem dX1_handlerOf_26 : decode cX1_handlerOf 26 = .ok (.goto 9, 3) := by decide +kernel
theorem dX1_handlerOf_29 : decode cX1_handlerOf 29 = .ok (.aload_n 0, 1) := by decide +kernel
theorem dX1_handlerOf_30 : decode cX1_handlerOf 30 = .ok (.getfield 129, 3) := by decide +kernel
theorem dX1_handlerOf_33 : decode cX1_handlerOf 33 = .ok (.iload_n 1, 1) := by decide +kernel
theorem dX1_handlerOf_34 : decode cX1_handlerOf 34 = .ok (.iaload, 1) := by decide +kernel
theorem dX1_handlerOf_35 : decode cX1_handlerOf 35 = .ok (.ireturn, 1) := by decide +kernel
theorem dX1_promise_0 : decode cX1_promise 0 = .ok (.aload_n 0, 1) := by decide +kernel
theorem dX1_promise_1 : decode cX1_promise 1 = .ok (.bipush 8, 2) := by decide +kernel
theorem dX1_promise_3 : decode cX1_promise 3 = .ok (.invokevirtual 282, 3) := by decide +kernel
theorem dX1_promise_6 : decode cX1_promise 6 = .ok (.aload_n 0, 1) := by decide +kernel
theorem dX1_promise_7 : decode cX1_promise 7 = .ok (.invokevirtual 204, 3) := by decide +kernel
theorem dX1_promise_10 : decode cX1_promise 10 = .ok (.istore_n 1, 1) := by decide +kernel
theorem dX1_promise_11 : decode cX1_promise 11 = .ok (.aload_n 0, 1) := by decide +kernel
theorem dX1_promise_12 : decode cX1_promise 12 = .ok (.getfield 25, 3) := by decide +kernel
theorem dX1_promise_15 : decode cX1_promise 15 = .ok (.iload_n 1, 1) := by decide +kernel
theorem dX1_promise_16 : decode cX1_promise 16 = .ok (.aload_n 0, 1) := by decide +kernel
theorem dX1_promise_17 : decode cX1_promise 17 = .ok (.iload_n 1, 1) := by decide +kernel
theorem dX1_promise_18 : decode cX1_promise 18 = .ok (.invokevirtual 207, 3) := by decide +kernel
theorem dX1_promise_21 : decode cX1_promise 21 = .ok (.iastore, 1) := by decide +kernel
theorem dX1_promise_22 : decode cX1_promise 22 = .ok (.iload_n 1, 1) := by decide +kernel
theorem dX1_promise_23 : decode cX1_promise 23 = .ok (.invokestatic 160, 3) := by decide +kernel
theorem dX1_promise_26 : decode cX1_promise 26 = .ok (.ireturn, 1) := by decide +kernel
theorem dX1_handler_0 : decode cX1_handler 0 = .ok (.iload_n 1, 1) := by decide +kernel
theorem dX1_handler_1 : decode cX1_handler 1 = .ok (.ifCond .lt 20, 3) := by decide +kernel
theorem dX1_handler_4 : decode cX1_handler 4 = .ok (.iload_n 1, 1) := by decide +kernel
theorem dX1_handler_5 : decode cX1_handler 5 = .ok (.iconst 5, 1) := by decide +kernel
theorem dX1_handler_6 : decode cX1_handler 6 = .ok (.if_icmp .gt 15, 3) := by decide +kernel
theorem dX1_handler_9 : decode cX1_handler 9 = .ok (.aload_n 0, 1) := by decide +kernel
theorem dX1_handler_10 : decode cX1_handler 10 = .ok (.iload_n 2, 1) := by decide +kernel
theorem dX1_handler_11 : decode cX1_handler 11 = .ok (.invokevirtual 286, 3) := by decide +kernel
theorem dX1_handler_14 : decode cX1_handler 14 = .ok (.ifCond .eq 7, 3) := by decide +kernel
theorem dX1_handler_17 : decode cX1_handler 17 = .ok (.iconst 1, 1) := by decide +kernel
theorem dX1_handler_18 : decode cX1_handler 18 = .ok (.goto 4, 3) := by decide +kernel
theorem dX1_handler_21 : decode cX1_handler 21 = .ok (.iconst 0, 1) := by decide +kernel
theorem dX1_handler_22 : decode cX1_handler 22 = .ok (.invokestatic 275, 3) := by decide +kernel
theorem dX1_handler_25 : decode cX1_handler 25 = .ok (.iload_n 1, 1) := by decide +kernel
theorem dX1_handler_26 : decode cX1_handler 26 = .ok (.iconst 3, 1) := by decide +kernel
theorem dX1_handler_27 : decode cX1_handler 27 = .ok (.if_icmp .le 24, 3) := by decide +kernel
theorem dX1_handler_30 : decode cX1_handler 30 = .ok (.aload_n 0, 1) := by decide +kernel
theorem dX1_handler_31 : decode cX1_handler 31 = .ok (.getfield 25, 3) := by decide +kernel
theorem dX1_handler_34 : decode cX1_handler 34 = .ok (.aload_n 0, 1) := by decide +kernel
theorem dX1_handler_35 : decode cX1_handler 35 = .ok (.iload_n 2, 1) := by decide +kernel
theorem dX1_handler_36 : decode cX1_handler 36 = .ok (.invokevirtual 289, 3) := by decide +kernel
theorem dX1_handler_39 : decode cX1_handler 39 = .ok (.iaload, 1) := by decide +kernel
theorem dX1_handler_40 : decode cX1_handler 40 = .ok (.ifCond .lt 7, 3) := by decide +kernel
theorem dX1_handler_43 : decode cX1_handler 43 = .ok (.iconst 1, 1) := by decide +kernel
theorem dX1_handler_44 : decode cX1_handler 44 = .ok (.goto 4, 3) := by decide +kernel
theorem dX1_handler_47 : decode cX1_handler 47 = .ok (.iconst 0, 1) := by decide +kernel
theorem dX1_handler_48 : decode cX1_handler 48 = .ok (.invokestatic 275, 3) := by decide +kernel
theorem dX1_handler_51 : decode cX1_handler 51 = .ok (.aload_n 0, 1) := by decide +kernel
theorem dX1_handler_52 : decode cX1_handler 52 = .ok (.getfield 279, 3) := by decide +kernel
theorem dX1_handler_55 : decode cX1_handler 55 = .ok (.aload_n 0, 1) := by decide +kernel
theorem dX1_handler_56 : decode cX1_handler 56 = .ok (.getfield 129, 3) := by decide +kernel
theorem dX1_handler_59 : decode cX1_handler 59 = .ok (.arraylength, 1) := by decide +kernel
theorem dX1_handler_60 : decode cX1_handler 60 = .ok (.if_icmp .ne 11, 3) := by decide +kernel
theorem dX1_handler_63 : decode cX1_handler 63 = .ok (.new 272, 3) := by decide +kernel
theorem dX1_handler_66 : decode cX1_handler 66 = .ok (.dup, 1) := by decide +kernel
theorem dX1_handler_67 : decode cX1_handler 67 = .ok (.invokespecial 274, 3) := by decide +kernel
theorem dX1_handler_70 : decode cX1_handler 70 = .ok (.athrow, 1) := by decide +kernel
theorem dX1_handler_71 : decode cX1_handler 71 = .ok (.aload_n 0, 1) := by decide +kernel
theorem dX1_handler_72 : decode cX1_handler 72 = .ok (.getfield 129, 3) := by decide +kernel
theorem dX1_handler_75 : decode cX1_handler 75 = .ok (.aload_n 0, 1) := by decide +kernel
theorem dX1_handler_76 : decode cX1_handler 76 = .ok (.getfield 279, 3) := by decide +kernel
theorem dX1_handler_79 : decode cX1_handler 79 = .ok (.aload_n 0, 1) := by decide +kernel
theorem dX1_handler_80 : decode cX1_handler 80 = .ok (.iconst 0, 1) := by decide +kernel
theorem dX1_handler_81 : decode cX1_handler 81 = .ok (.iload_n 1, 1) := by decide +kernel
theorem dX1_handler_82 : decode cX1_handler 82 = .ok (.iload_n 2, 1) := by decide +kernel
theorem dX1_handler_83 : decode cX1_handler 83 = .ok (.aload_n 0, 1) := by decide +kernel
theorem dX1_handler_84 : decode cX1_handler 84 = .ok (.getfield 279, 3) := by decide +kernel
theorem dX1_handler_87 : decode cX1_handler 87 = .ok (.invokevirtual 170, 3) := by decide +kernel
theorem dX1_handler_90 : decode cX1_handler 90 = .ok (.iastore, 1) := by decide +kernel
theorem dX1_handler_91 : decode cX1_handler 91 = .ok (.aload_n 0, 1) := by decide +kernel
theorem dX1_handler_92 : decode cX1_handler 92 = .ok (.dup, 1) := by decide +kernel
theorem dX1_handler_93 : decode cX1_handler 93 = .ok (.getfield 279, 3) := by decide +kernel
theorem dX1_handler_96 : decode cX1_handler 96 = .ok (.iconst 1, 1) := by decide +kernel
theorem dX1_handler_97 : decode cX1_handler 97 = .ok (.iadd, 1) := by decide +kernel
theorem dX1_handler_98 : decode cX1_handler 98 = .ok (.putfield 279, 3) := by decide +kernel
theorem dX1_handler_101 : decode cX1_handler 101 = .ok (.aload_n 0, 1) := by decide +kernel
theorem dX1_handler_102 : decode cX1_handler 102 = .ok (.getfield 279, 3) := by decide +kernel
theorem dX1_handler_105 : decode cX1_handler 105 = .ok (.iconst 1, 1) := by decide +kernel
theorem dX1_handler_106 : decode cX1_handler 106 = .ok (.isub, 1) := by decide +kernel
theorem dX1_handler_107 : decode cX1_handler 107 = .ok (.ireturn, 1) := by decide +kernel
section WALK
variable {p : Program} {l : Launch} {e : Env} {R : Room} {s : State} {m : MethodId} {args : Array Value} {below : List Frame} {meth : Method} {c : Code} {H : Heap} {locs : List Loc} {cells slots : Nat}
variable {E : Ev} {h0 : Nat} {P0 : Le} {kc0 ks0 : Nat} {S0 : State} {A : Nat → Prop} {P : Le} {ls : Array Slot}
theorem m1_job_J218 {V : Mv} {Z : Le} {Q : Po} {PX : Px} (X : Cx E 0 h0 P0 kc0 ks0 S0 A p l R s m args meth c cX1_job 8 none 32) (hM : inM V) (hS : HS E 0 h0 P0 kc0 ks0 (sbs [15, 16, 17, 18, 20, 22, 23, 24, 25, 26, 27, 29, 30, 31, 32, 38, 51, 52]) A s.heap P (toC V) Z H locs cells slots) (hl : lv_has ls 8 []) (hw : w1_job_J218  V Z Q) : W p l e R s m args below meth c H locs cells slots (MQx below (QT E 0 h0 false P0 kc0 ks0 (sbs [15, 16, 17, 18, 20, 22, 23, 24, 25, 26, 27, 29, 30, 31, 32, 38, 51, 52]) A (QL Q) (PL PX) s) s) (F0 m 218 ls []) := by
  have hx := X.2.1
  have hb := X.2.2.1
  unfold w1_job_J218 at hw
  exact z_rv X hS hM hw dX1_job_218
theorem m1_job_J212 {a7 : Int} {b1 : Int} {V : Mv} {Z : Le} {Q : Po} {PX : Px} (X : Cx E 0 h0 P0 kc0 ks0 S0 A p l R s m args meth c cX1_job 8 none 32) (hM : inM V) (hS : HS E 0 h0 P0 kc0 ks0 (sbs [15, 16, 17, 18, 20, 22, 23, 24, 25, 26, 27, 29, 30, 31, 32, 38, 51, 52]) A s.heap P (toC V) Z H locs cells slots) (hl : lv_has ls 8 [(7, .int (I3 a7))]) (r7 : inR a7) (sr1 : inR b1) (hw : w1_job_J212 a7 b1 V Z Q) : W p l e R s m args below meth c H locs cells slots (MQx below (QT E 0 h0 false P0 kc0 ks0 (sbs [15, 16, 17, 18, 20, 22, 23, 24, 25, 26, 27, 29, 30, 31, 32, 38, 51, 52]) A (QL Q) (PL PX) s) s) (F0 m 212 ls [.int (I3 b1), .ref h0]) := by
  have hx := X.2.1
  have hb := X.2.2.1
  unfold w1_job_J212 at hw
  refine lv_iload hx hb dX1_job_212 (lv_at hl 0 rfl) ?_
  refine z_callI X hS (m1_call 3 sr1 r7 hM hw) gv1_218 hy1_call rfl (by omega) (by decide) (sbs_sub rfl) hl.1 (Nat.le_of_ble_eq_true rfl) dX1_job_214 rfl (fun x1 V3 Z4 h2 hM5 hw P6 H locs c1 s1 hP hS => ?_)
  refine lv_pop hx hb dX1_job_217 rfl ?_
  exact m1_job_J218 X hM5 hS (lv_sub hl [] rfl)  hw
theorem m1_job_J182 {a2 : Int} {a6 : Int} {a7 : Int} {V : Mv} {Z : Le} {Q : Po} {PX : Px} (X : Cx E 0 h0 P0 kc0 ks0 S0 A p l R s m args meth c cX1_job 8 none 32) (hM : inM V) (hS : HS E 0 h0 P0 kc0 ks0 (sbs [15, 16, 17, 18, 20, 22, 23, 24, 25, 26, 27, 29, 30, 31, 32, 38, 51, 52]) A s.heap P (toC V) Z H locs cells slots) (hl : lv_has ls 8 [(0, .ref h0), (2, .int (I3 a2)), (6, .int (I3 a6)), (7, .int (I3 a7))]) (r2 : inR a2) (r6 : inR a6) (r7 : inR a7) (hw : w1_job_J182 a2 a6 a7 V Z Q) : W p l e R s m args below meth c H locs cells slots (MQx below (QT E 0 h0 false P0 kc0 ks0 (sbs [15, 16, 17, 18, 20, 22, 23, 24, 25, 26, 27, 29, 30, 31, 32, 38, 51, 52]) A (QL Q) (PL PX) s) s) (F0 m 182 ls []) := by
  have hx := X.2.1
  have hb := X.2.2.1
  unfold w1_job_J182 at hw
  refine lv_aload_n hx hb dX1_job_182 rfl (lv_at hl 0 rfl) ?_
  refine r_ga X hS f1_24 dX1_job_183 ?_
  refine lv_iload_n hx hb dX1_job_186 rfl (lv_at hl 1 rfl) ?_
  refine z_il X hS a1_24 hw dX1_job_187 (fun hw => ?_)
  refine z_zlt (tgt := 218) hx hb (hM 24 a2) hw dX1_job_188 (by decide) (fun hc hw => ?_) (fun hc hw => ?_)
  · exact m1_job_J218 X hM hS (lv_sub hl [] rfl)  hw
  · refine lv_aload_n hx hb dX1_job_191 rfl (lv_at hl 0 rfl) ?_
    refine lv_iload hx hb dX1_job_192 (lv_at hl 2 rfl) ?_
    refine z_zeq (tgt := 206) hx hb r6 hw dX1_job_194 (by decide) (fun hc hw => ?_) (fun hc hw => ?_)
    · refine lv_aload_n hx hb dX1_job_206 rfl (lv_at hl 0 rfl) ?_
      refine r_ga X hS f1_24 dX1_job_207 ?_
      refine lv_iload_n hx hb dX1_job_210 rfl (lv_at hl 1 rfl) ?_
      refine z_il X hS a1_24 hw dX1_job_211 (fun hw => ?_)
      exact m1_job_J212 X hM hS (lv_sub hl [3] rfl) r7 (hM 24 a2) hw
    · refine lv_aload_n hx hb dX1_job_197 rfl (lv_at hl 0 rfl) ?_
      refine r_ga X hS f1_25 dX1_job_198 ?_
      refine lv_iload_n hx hb dX1_job_201 rfl (lv_at hl 1 rfl) ?_
      refine z_il X hS a1_25 hw dX1_job_202 (fun hw => ?_)
      refine lv_goto (tgt := 212) hx hb dX1_job_203 (by decide) ?_
      exact m1_job_J212 X hM hS (lv_sub hl [3] rfl) r7 (hM 25 a2) hw
theorem m1_job_J155 {a2 : Int} {a4 : Int} {a5 : Int} {b0 : Int} {V : Mv} {Z : Le} {Q : Po} {PX : Px} (X : Cx E 0 h0 P0 kc0 ks0 S0 A p l R s m args meth c cX1_job 8 none 32) (hM : inM V) (hS : HS E 0 h0 P0 kc0 ks0 (sbs [15, 16, 17, 18, 20, 22, 23, 24, 25, 26, 27, 29, 30, 31, 32, 38, 51, 52]) A s.heap P (toC V) Z H locs cells slots) (hl : lv_has ls 8 [(0, .ref h0), (2, .int (I3 a2)), (4, .int (I3 a4)), (5, .int (I3 a5))]) (r2 : inR a2) (r4 : inR a4) (r5 : inR a5) (sr0 : inR b0) (hw : w1_job_J155 a2 a4 a5 b0 V Z Q) : W p l e R s m args below meth c H locs cells slots (MQx below (QT E 0 h0 false P0 kc0 ks0 (sbs [15, 16, 17, 18, 20, 22, 23, 24, 25, 26, 27, 29, 30, 31, 32, 38, 51, 52]) A (QL Q) (PL PX) s) s) (F0 m 155 ls [.int (I3 b0)]) := by
  have hx := X.2.1
  have hb := X.2.2.1
  unfold w1_job_J155 at hw
  refine lv_istore (lv' := [(6, .int (I3 b0)), (0, .ref h0), (2, .int (I3 a2)), (4, .int (I3 a4)), (5, .int (I3 a5))]) hx hb dX1_job_155 hl (by decide) rfl (fun ls hl => ?_)
  refine lv_iload hx hb dX1_job_157 (lv_at hl 3 rfl) ?_
  refine lv_istore (lv' := [(7, .int (I3 a4)), (6, .int (I3 b0)), (0, .ref h0), (2, .int (I3 a2)), (4, .int (I3 a4)), (5, .int (I3 a5))]) hx hb dX1_job_159 hl (by decide) rfl (fun ls hl => ?_)
  refine lv_iload hx hb dX1_job_161 (lv_at hl 5 rfl) ?_
  refine z_zlt (tgt := 182) hx hb r5 hw dX1_job_163 (by decide) (fun hc hw => ?_) (fun hc hw => ?_)
  · exact m1_job_J182 X hM hS (lv_sub hl [2, 3, 1, 0] rfl) r2 sr0 r4 hw
  · refine lv_aload_n hx hb dX1_job_166 rfl (lv_at hl 2 rfl) ?_
    refine lv_iload hx hb dX1_job_167 (lv_at hl 5 rfl) ?_
    refine lv_iload hx hb dX1_job_169 (lv_at hl 4 rfl) ?_
    refine z_callI X hS (m1_call 3 r5 r4 hM hw) gv1_218 hy1_call rfl (by omega) (by decide) (sbs_sub rfl) hl.1 (Nat.le_of_ble_eq_true rfl) dX1_job_171 rfl (fun x7 V9 Z10 h8 hM11 hw P12 H locs c1 s1 hP hS => ?_)
    refine lv_istore (lv' := [(7, .int (I3 x7)), (6, .int (I3 b0)), (0, .ref h0), (2, .int (I3 a2)), (4, .int (I3 a4)), (5, .int (I3 a5))]) hx hb dX1_job_174 hl (by decide) rfl (fun ls hl => ?_)
    refine lv_aload_n hx hb dX1_job_176 rfl (lv_at hl 2 rfl) ?_
    refine z_gi X hS f1_54 dX1_job_177 ?_
    refine lv_istore (lv' := [(6, .int (I3 (V9 54 0))), (7, .int (I3 x7)), (0, .ref h0), (2, .int (I3 a2)), (4, .int (I3 a4)), (5, .int (I3 a5))]) hx hb dX1_job_180 hl (by decide) rfl (fun ls hl => ?_)
    exact m1_job_J182 X hM11 hS (lv_sub hl [2, 3, 0, 1] rfl) r2 (hM11 54 0) h8 hw
theorem m1_job_J154 {a2 : Int} {a4 : Int} {a5 : Int} {V : Mv} {Z : Le} {Q : Po} {PX : Px} (X : Cx E 0 h0 P0 kc0 ks0 S0 A p l R s m args meth c cX1_job 8 none 32) (hM : inM V) (hS : HS E 0 h0 P0 kc0 ks0 (sbs [15, 16, 17, 18, 20, 22, 23, 24, 25, 26, 27, 29, 30, 31, 32, 38, 51, 52]) A s.heap P (toC V) Z H locs cells slots) (hl : lv_has ls 8 [(0, .ref h0), (2, .int (I3 a2)), (4, .int (I3 a4)), (5, .int (I3 a5))]) (r2 : inR a2) (r4 : inR a4) (r5 : inR a5) (hw : w1_job_J154 a2 a4 a5 V Z Q) : W p l e R s m args below meth c H locs cells slots (MQx below (QT E 0 h0 false P0 kc0 ks0 (sbs [15, 16, 17, 18, 20, 22, 23, 24, 25, 26, 27, 29, 30, 31, 32, 38, 51, 52]) A (QL Q) (PL PX) s) s) (F0 m 154 ls []) := by
  have hx := X.2.1
  have hb := X.2.2.1
  unfold w1_job_J154 at hw
  refine z_iconst hx hb dX1_job_154 ?_
  exact m1_job_J155 X hM hS (lv_sub hl [0, 1, 2, 3] rfl) r2 r4 r5 (⟨by decide, by decide⟩) hw
theorem m1_job_J138 {a2 : Int} {a3 : Int} {a4 : Int} {b0 : Int} {V : Mv} {Z : Le} {Q : Po} {PX : Px} (X : Cx E 0 h0 P0 kc0 ks0 S0 A p l R s m args meth c cX1_job 8 none 32) (hM : inM V) (hS : HS E 0 h0 P0 kc0 ks0 (sbs [15, 16, 17, 18, 20, 22, 23, 24, 25, 26, 27, 29, 30, 31, 32, 38, 51, 52]) A s.heap P (toC V) Z H locs cells slots) (hl : lv_has ls 8 [(0, .ref h0), (2, .int (I3 a2)), (3, .int (I3 a3)), (4, .int (I3 a4))]) (r2 : inR a2) (r3 : inR a3) (r4 : inR a4) (sr0 : inR b0) (hw : w1_job_J138 a2 a3 a4 b0 V Z Q) : W p l e R s m args below meth c H locs cells slots (MQx below (QT E 0 h0 false P0 kc0 ks0 (sbs [15, 16, 17, 18, 20, 22, 23, 24, 25, 26, 27, 29, 30, 31, 32, 38, 51, 52]) A (QL Q) (PL PX) s) s) (F0 m 138 ls [.int (I3 b0)]) := by
  have hx := X.2.1
  have hb := X.2.2.1
  unfold w1_job_J138 at hw
  refine lv_istore (lv' := [(5, .int (I3 b0)), (0, .ref h0), (2, .int (I3 a2)), (3, .int (I3 a3)), (4, .int (I3 a4))]) hx hb dX1_job_138 hl (by decide) rfl (fun ls hl => ?_)
  refine lv_iload hx hb dX1_job_140 (lv_at hl 0 rfl) ?_
  refine z_zge (tgt := 154) hx hb sr0 hw dX1_job_142 (by decide) (fun hc hw => ?_) (fun hc hw => ?_)
  · exact m1_job_J154 X hM hS (lv_sub hl [1, 2, 4, 0] rfl) r2 r4 sr0 hw
  · refine lv_iload_n hx hb dX1_job_145 rfl (lv_at hl 3 rfl) ?_
    refine z_iconst hx hb dX1_job_146 ?_
    refine z_ine (tgt := 154) hx hb r3 (⟨by decide, by decide⟩) hw dX1_job_147 (by decide) (fun hc hw => ?_) (fun hc hw => ?_)
    · exact m1_job_J154 X hM hS (lv_sub hl [1, 2, 4, 0] rfl) r2 r4 sr0 hw
    · refine z_iconst hx hb dX1_job_150 ?_
      refine lv_goto (tgt := 155) hx hb dX1_job_151 (by decide) ?_
      exact m1_job_J155 X hM hS (lv_sub hl [1, 2, 4, 0] rfl) r2 r4 sr0 (⟨by decide, by decide⟩) hw
theorem m1_job_J94 {V : Mv} {Z : Le} {Q : Po} {PX : Px} (X : Cx E 0 h0 P0 kc0 ks0 S0 A p l R s m args meth c cX1_job 8 none 32) (hM : inM V) (hS : HS E 0 h0 P0 kc0 ks0 (sbs [15, 16, 17, 18, 20, 22, 23, 24, 25, 26, 27, 29, 30, 31, 32, 38, 51, 52]) A s.heap P (toC V) Z H locs cells slots) (hl : lv_has ls 8 []) (hw : w1_job_J94  V Z Q) : W p l e R s m args below meth c H locs cells slots (MQx below (QT E 0 h0 false P0 kc0 ks0 (sbs [15, 16, 17, 18, 20, 22, 23, 24, 25, 26, 27, 29, 30, 31, 32, 38, 51, 52]) A (QL Q) (PL PX) s) s) (F0 m 94 ls []) := by
  have hx := X.2.1
  have hb := X.2.2.1
  unfold w1_job_J94 at hw
  exact z_rv X hS hM hw dX1_job_94
theorem m1_job {a1 : Int} {V : Mv} {Z : Le} {Q : Po} {PX : Px} (r1 : inR a1) (hM : inM V) (hw : w1_job a1 V Z Q) : MT l S0 E 0 h0 yX1_job cX1_job 8 none 32 false (sbs [15, 16, 17, 18, 20, 22, 23, 24, 25, 26, 27, 29, 30, 31, 32, 38, 51, 52]) [.int (I3 a1)] (toC V) Z (QL Q) (PL PX) := by
  refine mt_of Gk0 (by decide) rfl (Nat.le_of_ble_eq_true rfl) ?_
  intro p e s m below meth c A P ls X hS hl
  have hl : lv_has ls 8 [(0, .ref h0), (1, .int (I3 a1))] := hl
  have hx := X.2.1
  have hb := X.2.2.1
  unfold w1_job at hw
  refine lv_aload_n hx hb dX1_job_0 rfl (lv_at hl 0 rfl) ?_
  refine r_ga X hS f1_29 dX1_job_1 ?_
  refine lv_iload_n hx hb dX1_job_4 rfl (lv_at hl 1 rfl) ?_
  refine z_il X hS a1_29 hw dX1_job_5 (fun hw => ?_)
  refine lv_istore_n (lv' := [(2, .int (I3 (V 29 a1))), (0, .ref h0), (1, .int (I3 a1))]) hx hb dX1_job_6 rfl hl (by decide) rfl (fun ls hl => ?_)
  refine lv_aload_n hx hb dX1_job_7 rfl (lv_at hl 1 rfl) ?_
  refine r_ga X hS f1_30 dX1_job_8 ?_
  refine lv_iload_n hx hb dX1_job_11 rfl (lv_at hl 2 rfl) ?_
  refine z_il X hS a1_30 hw dX1_job_12 (fun hw => ?_)
  refine lv_istore_n (lv' := [(3, .int (I3 (V 30 a1))), (2, .int (I3 (V 29 a1))), (0, .ref h0), (1, .int (I3 a1))]) hx hb dX1_job_13 rfl hl (by decide) rfl (fun ls hl => ?_)
  refine lv_aload_n hx hb dX1_job_14 rfl (lv_at hl 2 rfl) ?_
  refine r_ga X hS f1_31 dX1_job_15 ?_
  refine lv_iload_n hx hb dX1_job_18 rfl (lv_at hl 3 rfl) ?_
  refine z_il X hS a1_31 hw dX1_job_19 (fun hw => ?_)
  refine lv_istore (lv' := [(4, .int (I3 (V 31 a1))), (3, .int (I3 (V 30 a1))), (2, .int (I3 (V 29 a1))), (0, .ref h0), (1, .int (I3 a1))]) hx hb dX1_job_20 hl (by decide) rfl (fun ls hl => ?_)
  refine lv_iload_n hx hb dX1_job_22 rfl (lv_at hl 2 rfl) ?_
  refine z_zge (tgt := 95) hx hb (hM 29 a1) hw dX1_job_23 (by decide) (fun hc hw => ?_) (fun hc hw => ?_)
  · refine lv_aload_n hx hb dX1_job_95 rfl (lv_at hl 3 rfl) ?_
    refine r_ga X hS f1_26 dX1_job_96 ?_
    refine lv_iload_n hx hb dX1_job_99 rfl (lv_at hl 2 rfl) ?_
    refine z_il X hS a1_26 hw dX1_job_100 (fun hw => ?_)
    refine z_zlt (tgt := 118) hx hb (hM 26 (V 29 a1)) hw dX1_job_101 (by decide) (fun hc hw => ?_) (fun hc hw => ?_)
    · refine lv_iload_n hx hb dX1_job_118 rfl (lv_at hl 1 rfl) ?_
      refine z_iconst hx hb dX1_job_119 ?_
      refine z_ine (tgt := 132) hx hb (hM 30 a1) (⟨by decide, by decide⟩) hw dX1_job_120 (by decide) (fun hc hw => ?_) (fun hc hw => ?_)
      · refine lv_aload_n hx hb dX1_job_132 rfl (lv_at hl 3 rfl) ?_
        refine r_ga X hS f1_23 dX1_job_133 ?_
        refine lv_iload_n hx hb dX1_job_136 rfl (lv_at hl 2 rfl) ?_
        refine z_il X hS a1_23 hw dX1_job_137 (fun hw => ?_)
        exact m1_job_J138 X hM hS (lv_sub hl [3, 2, 1, 0] rfl) (hM 29 a1) (hM 30 a1) (hM 31 a1) (hM 23 (V 29 a1)) hw
      · refine lv_aload_n hx hb dX1_job_123 rfl (lv_at hl 3 rfl) ?_
        refine r_ga X hS f1_22 dX1_job_124 ?_
        refine lv_iload_n hx hb dX1_job_127 rfl (lv_at hl 2 rfl) ?_
        refine z_il X hS a1_22 hw dX1_job_128 (fun hw => ?_)
        refine lv_goto (tgt := 138) hx hb dX1_job_129 (by decide) ?_
        exact m1_job_J138 X hM hS (lv_sub hl [3, 2, 1, 0] rfl) (hM 29 a1) (hM 30 a1) (hM 31 a1) (hM 22 (V 29 a1)) hw
    · refine lv_aload_n hx hb dX1_job_104 rfl (lv_at hl 3 rfl) ?_
      refine lv_aload_n hx hb dX1_job_105 rfl (lv_at hl 3 rfl) ?_
      refine r_ga X hS f1_26 dX1_job_106 ?_
      refine lv_iload_n hx hb dX1_job_109 rfl (lv_at hl 2 rfl) ?_
      refine z_il X hS a1_26 hw dX1_job_110 (fun hw => ?_)
      refine lv_iload_n hx hb dX1_job_111 rfl (lv_at hl 1 rfl) ?_
      refine lv_iload hx hb dX1_job_112 (lv_at hl 0 rfl) ?_
      refine z_callV X hS (m1_goOn (hM 26 (V 29 a1)) (hM 30 a1) (hM 31 a1) hM hw) gv1_266 hy1_goOn rfl (by omega) (by decide) (sbs_sub rfl) hl.1 (Nat.le_of_ble_eq_true rfl) dX1_job_114 rfl (fun x13 V15 Z16 h14 hM17 hw P18 H locs c1 s1 hP hS => ?_)
      exact z_rv X hS hM17 hw dX1_job_117
  · refine z_iconst hx hb dX1_job_26 ?_
    refine lv_iload_n hx hb dX1_job_27 rfl (lv_at hl 2 rfl) ?_
    refine z_sub hx hb hw dX1_job_28 (fun h19 hw => ?_)
    refine lv_istore (lv' := [(5, .int (I3 ((-1) - V 29 a1))), (4, .int (I3 (V 31 a1))), (3, .int (I3 (V 30 a1))), (2, .int (I3 (V 29 a1))), (0, .ref h0), (1, .int (I3 a1))]) hx hb dX1_job_29 hl (by decide) rfl (fun ls hl => ?_)
    refine lv_aload_n hx hb dX1_job_31 rfl (lv_at hl 4 rfl) ?_
    refine lv_iload_n hx hb dX1_job_32 rfl (lv_at hl 2 rfl) ?_
    refine z_callI X hS (m1_functionsOf (hM 30 a1) hM hw) gv1_207 hy1_functionsOf rfl (by omega) (by decide) (sbs_sub rfl) hl.1 (Nat.le_of_ble_eq_true rfl) dX1_job_33 rfl (fun x20 V22 Z23 h21 hM24 hw P25 H locs c1 s1 hP hS => ?_)
    refine lv_istore (lv' := [(6, .int (I3 x20)), (5, .int (I3 ((-1) - V 29 a1))), (4, .int (I3 (V 31 a1))), (3, .int (I3 (V 30 a1))), (2, .int (I3 (V 29 a1))), (0, .ref h0), (1, .int (I3 a1))]) hx hb dX1_job_36 hl (by decide) rfl (fun ls hl => ?_)
    refine lv_aload_n hx hb dX1_job_38 rfl (lv_at hl 5 rfl) ?_
    refine r_ga X hS f1_0 dX1_job_39 ?_
    refine lv_iload hx hb dX1_job_42 (lv_at hl 1 rfl) ?_
    refine z_il X hS a1_0 hw dX1_job_44 (fun hw => ?_)
    refine z_zne (tgt := 62) hx hb (hM24 0 ((-1) - V 29 a1)) hw dX1_job_45 (by decide) (fun hc hw => ?_) (fun hc hw => ?_)
    · refine lv_aload_n hx hb dX1_job_62 rfl (lv_at hl 5 rfl) ?_
      refine lv_iload hx hb dX1_job_63 (lv_at hl 1 rfl) ?_
      refine lv_iload hx hb dX1_job_65 (lv_at hl 0 rfl) ?_
      refine lv_iload hx hb dX1_job_67 (lv_at hl 0 rfl) ?_
      refine z_iconst hx hb dX1_job_69 ?_
      refine z_add hx hb hw dX1_job_70 (fun h26 hw => ?_)
      refine z_callV X hS (m1_callThen h19 h21 h26 hM24 hw) gv1_263 hy1_callThen rfl (by omega) (by decide) (sbs_sub rfl) hl.1 (Nat.le_of_ble_eq_true rfl) dX1_job_71 rfl (fun x27 V29 Z30 h28 hM31 hw P32 H locs c1 s1 hP hS => ?_)
      refine lv_aload_n hx hb dX1_job_74 rfl (lv_at hl 5 rfl) ?_
      refine z_gi X hS f1_54 dX1_job_75 ?_
      refine z_zeq (tgt := 94) hx hb (hM31 54 0) hw dX1_job_78 (by decide) (fun hc hw => ?_) (fun hc hw => ?_)
      · exact m1_job_J94 X hM31 hS (lv_sub hl [] rfl)  hw
      · refine lv_aload_n hx hb dX1_job_81 rfl (lv_at hl 5 rfl) ?_
        refine lv_iload hx hb dX1_job_82 (lv_at hl 0 rfl) ?_
        refine z_iconst hx hb dX1_job_84 ?_
        refine z_add hx hb hw dX1_job_85 (fun h33 hw => ?_)
        refine lv_aload_n hx hb dX1_job_86 rfl (lv_at hl 5 rfl) ?_
        refine z_gi X hS f1_55 dX1_job_87 ?_
        refine z_callI X hS (m1_call 3 h33 (hM31 55 0) hM31 hw) gv1_218 hy1_call rfl (by omega) (by decide) (sbs_sub rfl) hl.1 (Nat.le_of_ble_eq_true rfl) dX1_job_90 rfl (fun x34 V36 Z37 h35 hM38 hw P39 H locs c1 s1 hP hS => ?_)
        refine lv_pop hx hb dX1_job_93 rfl ?_
        exact m1_job_J94 X hM38 hS (lv_sub hl [] rfl)  hw
    · refine lv_aload_n hx hb dX1_job_48 rfl (lv_at hl 5 rfl) ?_
      refine lv_iload hx hb dX1_job_49 (lv_at hl 1 rfl) ?_
      refine lv_iload hx hb dX1_job_51 (lv_at hl 0 rfl) ?_
      refine lv_iload hx hb dX1_job_53 (lv_at hl 0 rfl) ?_
      refine z_iconst hx hb dX1_job_55 ?_
      refine z_add hx hb hw dX1_job_56 (fun h40 hw => ?_)
      refine z_callI X hS (m1_then h19 h21 h40 hM24 hw) gv1_234 hy1_then rfl (by omega) (by decide) (sbs_sub rfl) hl.1 (Nat.le_of_ble_eq_true rfl) dX1_job_57 rfl (fun x41 V43 Z44 h42 hM45 hw P46 H locs c1 s1 hP hS => ?_)
      refine lv_pop hx hb dX1_job_60 rfl ?_
      exact z_rv X hS hM45 hw dX1_job_61
theorem m1_room {a1 : Int} {V : Mv} {Z : Le} {Q : Int → Prop} {PX : Px} (r1 : inR a1) (hM : inM V) (hw : w1_room a1 V Z Q PX) : MR l S0 E 0 h0 yX1_room cX1_room 2 none 6 false [.int (I3 a1)] (toC V) Z (RL Q) (PL PX) := by
  refine mr_of Gk0 (by decide) rfl (Nat.le_of_ble_eq_true rfl) ?_
  intro p e s m below meth c A P ls X hS hl
  have hl : lv_has ls 2 [(0, .ref h0), (1, .int (I3 a1))] := hl
  have hx := X.2.1
  have hb := X.2.2.1
  unfold w1_room at hw
  refine lv_aload_n hx hb dX1_room_0 rfl (lv_at hl 0 rfl) ?_
  refine z_gi X hS f1_7 dX1_room_1 ?_
  refine lv_iload_n hx hb dX1_room_4 rfl (lv_at hl 1 rfl) ?_
  refine z_add hx hb hw dX1_room_5 (fun h1 hw => ?_)
  refine z_sipush hx hb dX1_room_6 (by decide +kernel) ?_
  refine z_ile (tgt := 20) hx hb h1 (⟨by decide, by decide⟩) hw dX1_room_9 (by decide) (fun hc hw => ?_) (fun hc hw => ?_)
  · exact z_rvR X hw dX1_room_20
  · exact z_thrR X hS hM hw hl.1 (by omega) dX1_room_12 dX1_room_15 dX1_room_16 dX1_room_19
theorem m1_isValue_J36 {b0 : Int} {V : Mv} {Z : Le} {Q : Int → Prop} {PX : Px} (X : Cx E 0 h0 P0 kc0 ks0 S0 A p l R s m args meth c cX1_isValue 2 (some .boolean) 1) (hM : inM V) (hS : HS E 0 h0 P0 kc0 ks0 (fun _ => false) A s.heap P (toC V) Z s.heap [] 0 0) (hl : lv_has ls 2 []) (sr0 : inR b0) (hw : w1_isValue_J36 b0 V Z Q PX) : W p l e R s m args below meth c s.heap [] 0 0 (MQx below (QR true (toC V) Z (RL Q) (PL PX) s) s) (F0 m 36 ls [.int (I3 b0)]) := by
  have hx := X.2.1
  have hb := X.2.2.1
  unfold w1_isValue_J36 at hw
  exact z_rzR X sr0 hw dX1_isValue_36
theorem m1_isValue {a1 : Int} {V : Mv} {Z : Le} {Q : Int → Prop} {PX : Px} (r1 : inR a1) (hM : inM V) (hw : w1_isValue a1 V Z Q PX) : MR l S0 E 0 h0 yX1_isValue cX1_isValue 2 (some .boolean) 1 true [.int (I3 a1)] (toC V) Z (RL Q) (PL PX) := by
  refine mr_of Gk0 (by decide) rfl (Nat.le_of_ble_eq_true rfl) ?_
  intro p e s m below meth c A P ls X hS hl
  have hl : lv_has ls 2 [(0, .ref h0), (1, .int (I3 a1))] := hl
  have hx := X.2.1
  have hb := X.2.2.1
  unfold w1_isValue at hw
  refine lv_iload_n hx hb dX1_isValue_0 rfl (lv_at hl 1 rfl) ?_
  refine z_iconst hx hb dX1_isValue_1 ?_
  refine z_ilt (tgt := 20) hx hb r1 (⟨by decide, by decide⟩) hw dX1_isValue_2 (by decide) (fun hc hw => ?_) (fun hc hw => ?_)
  · refine lv_iload_n hx hb dX1_isValue_20 rfl (lv_at hl 1 rfl) ?_
    refine z_id X hS hw gs1_201 (by omega) hl.1 (Nat.le_of_ble_eq_true rfl) dX1_isValue_21 (fun h1 hw => ?_)
    refine lv_aload_n hx hb dX1_isValue_24 rfl (lv_at hl 0 rfl) ?_
    refine z_gi X hS f1_7 dX1_isValue_25 ?_
    refine z_ige (tgt := 35) hx hb h1 (hM 7 0) hw dX1_isValue_28 (by decide) (fun hc hw => ?_) (fun hc hw => ?_)
    · refine z_iconst hx hb dX1_isValue_35 ?_
      exact m1_isValue_J36 X hM hS (lv_sub hl [] rfl) (⟨by decide, by decide⟩) hw
    · refine z_iconst hx hb dX1_isValue_31 ?_
      refine lv_goto (tgt := 36) hx hb dX1_isValue_32 (by decide) ?_
      exact m1_isValue_J36 X hM hS (lv_sub hl [] rfl) (⟨by decide, by decide⟩) hw
  · refine lv_iload_n hx hb dX1_isValue_5 rfl (lv_at hl 1 rfl) ?_
    refine z_sipush hx hb dX1_isValue_6 (by decide +kernel) ?_
    refine z_ige (tgt := 16) hx hb r1 (⟨by decide, by decide⟩) hw dX1_isValue_9 (by decide) (fun hc hw => ?_) (fun hc hw => ?_)
    · refine z_iconst hx hb dX1_isValue_16 ?_
      refine lv_goto (tgt := 36) hx hb dX1_isValue_17 (by decide) ?_
      exact m1_isValue_J36 X hM hS (lv_sub hl [] rfl) (⟨by decide, by decide⟩) hw
    · refine z_iconst hx hb dX1_isValue_12 ?_
      refine lv_goto (tgt := 36) hx hb dX1_isValue_13 (by decide) ?_
      exact m1_isValue_J36 X hM hS (lv_sub hl [] rfl) (⟨by decide, by decide⟩) hw
theorem m1_promiseOf_J35 {a1 : Int} {b0 : Int} {V : Mv} {Z : Le} {Q : Int → Prop} {PX : Px} (X : Cx E 0 h0 P0 kc0 ks0 S0 A p l R s m args meth c cX1_promiseOf 2 (some .int) 7) (hM : inM V) (hS : HS E 0 h0 P0 kc0 ks0 (fun _ => false) A s.heap P (toC V) Z s.heap [] 0 0) (hl : lv_has ls 2 [(1, .int (I3 a1))]) (r1 : inR a1) (sr0 : inR b0) (hw : w1_promiseOf_J35 a1 b0 V Z Q PX) : W p l e R s m args below meth c s.heap [] 0 0 (MQx below (QR true (toC V) Z (RL Q) (PL PX) s) s) (F0 m 35 ls [.int (I3 b0)]) := by
  have hx := X.2.1
  have hb := X.2.2.1
  unfold w1_promiseOf_J35 at hw
  refine z_needR X hS hM sr0 hw gs1_275 (by omega) hl.1 (Nat.le_of_ble_eq_true rfl) dX1_promiseOf_35 (fun hc hw => ?_)
  refine lv_iload_n hx hb dX1_promiseOf_38 rfl (lv_at hl 0 rfl) ?_
  refine z_id X hS hw gs1_201 (by omega) hl.1 (Nat.le_of_ble_eq_true rfl) dX1_promiseOf_39 (fun h1 hw => ?_)
  exact z_riR X h1 hw dX1_promiseOf_42
theorem m1_promiseOf_J34 {a1 : Int} {V : Mv} {Z : Le} {Q : Int → Prop} {PX : Px} (X : Cx E 0 h0 P0 kc0 ks0 S0 A p l R s m args meth c cX1_promiseOf 2 (some .int) 7) (hM : inM V) (hS : HS E 0 h0 P0 kc0 ks0 (fun _ => false) A s.heap P (toC V) Z s.heap [] 0 0) (hl : lv_has ls 2 [(1, .int (I3 a1))]) (r1 : inR a1) (hw : w1_promiseOf_J34 a1 V Z Q PX) : W p l e R s m args below meth c s.heap [] 0 0 (MQx below (QR true (toC V) Z (RL Q) (PL PX) s) s) (F0 m 34 ls []) := by
  have hx := X.2.1
  have hb := X.2.2.1
  unfold w1_promiseOf_J34 at hw
  refine z_iconst hx hb dX1_promiseOf_34 ?_
  exact m1_promiseOf_J35 X hM hS (lv_sub hl [0] rfl) r1 (⟨by decide, by decide⟩) hw
theorem m1_promiseOf {a1 : Int} {V : Mv} {Z : Le} {Q : Int → Prop} {PX : Px} (r1 : inR a1) (hM : inM V) (hw : w1_promiseOf a1 V Z Q PX) : MR l S0 E 0 h0 yX1_promiseOf cX1_promiseOf 2 (some .int) 7 true [.int (I3 a1)] (toC V) Z (RL Q) (PL PX) := by
  refine mr_of Gk0 (by decide) rfl (Nat.le_of_ble_eq_true rfl) ?_
  intro p e s m below meth c A P ls X hS hl
  have hl : lv_has ls 2 [(0, .ref h0), (1, .int (I3 a1))] := hl
  have hx := X.2.1
  have hb := X.2.2.1
  unfold w1_promiseOf at hw
  refine lv_iload_n hx hb dX1_promiseOf_0 rfl (lv_at hl 1 rfl) ?_
  refine z_isO X hS r1 gs1_197 (by omega) hl.1 (Nat.le_of_ble_eq_true rfl) dX1_promiseOf_1 ?_
  refine z_beq (tgt := 34) hx hb  hw dX1_promiseOf_4 (by decide) (fun hc hw => ?_) (fun hc hw => ?_)
  · exact m1_promiseOf_J34 X hM hS (lv_sub hl [1] rfl) r1 hw
  · refine lv_iload_n hx hb dX1_promiseOf_7 rfl (lv_at hl 1 rfl) ?_
    refine z_id X hS hw gs1_201 (by omega) hl.1 (Nat.le_of_ble_eq_true rfl) dX1_promiseOf_8 (fun h2 hw => ?_)
    refine lv_aload_n hx hb dX1_promiseOf_11 rfl (lv_at hl 0 rfl) ?_
    refine z_gi X hS f1_7 dX1_promiseOf_12 ?_
    refine z_ige (tgt := 34) hx hb h2 (hM 7 0) hw dX1_promiseOf_15 (by decide) (fun hc hw => ?_) (fun hc hw => ?_)
    · exact m1_promiseOf_J34 X hM hS (lv_sub hl [1] rfl) r1 hw
    · refine lv_aload_n hx hb dX1_promiseOf_18 rfl (lv_at hl 0 rfl) ?_
      refine r_ga X hS f1_0 dX1_promiseOf_19 ?_
      refine lv_iload_n hx hb dX1_promiseOf_22 rfl (lv_at hl 1 rfl) ?_
      refine z_id X hS hw gs1_201 (by omega) hl.1 (Nat.le_of_ble_eq_true rfl) dX1_promiseOf_23 (fun h3 hw => ?_)
      refine z_il X hS a1_0 hw dX1_promiseOf_26 (fun hw => ?_)
      refine z_zne (tgt := 34) hx hb (hM 0 (-2 - a1)) hw dX1_promiseOf_27 (by decide) (fun hc hw => ?_) (fun hc hw => ?_)
      · exact m1_promiseOf_J34 X hM hS (lv_sub hl [1] rfl) r1 hw
      · refine z_iconst hx hb dX1_promiseOf_30 ?_
        refine lv_goto (tgt := 35) hx hb dX1_promiseOf_31 (by decide) ?_
        exact m1_promiseOf_J35 X hM hS (lv_sub hl [1] rfl) r1 (⟨by decide, by decide⟩) hw
theorem m1_handlerOf_J35 {b0 : Int} {V : Mv} {Z : Le} {Q : Int → Prop} {PX : Px} (X : Cx E 0 h0 P0 kc0 ks0 S0 A p l R s m args meth c cX1_handlerOf 2 (some .int) 7) (hM : inM V) (hS : HS E 0 h0 P0 kc0 ks0 (fun _ => false) A s.heap P (toC V) Z s.heap [] 0 0) (hl : lv_has ls 2 []) (sr0 : inR b0) (hw : w1_handlerOf_J35 b0 V Z Q PX) : W p l e R s m args below meth c s.heap [] 0 0 (MQx below (QR true (toC V) Z (RL Q) (PL PX) s) s) (F0 m 35 ls [.int (I3 b0)]) := by
  have hx := X.2.1
  have hb := X.2.2.1
  unfold w1_handlerOf_J35 at hw
  exact z_riR X sr0 hw dX1_handlerOf_35
theorem m1_handlerOf_J18 {a1 : Int} {b0 : Int} {V : Mv} {Z : Le} {Q : Int → Prop} {PX : Px} (X : Cx E 0 h0 P0 kc0 ks0 S0 A p l R s m args meth c cX1_handlerOf 2 (some .int) 7) (hM : inM V) (hS : HS E 0 h0 P0 kc0 ks0 (fun _ => false) A s.heap P (toC V) Z s.heap [] 0 0) (hl : lv_has ls 2 [(0, .ref h0), (1, .int (I3 a1))]) (r1 : inR a1) (sr0 : inR b0) (hw : w1_handlerOf_J18 a1 b0 V Z Q PX) : W p l e R s m args below meth c s.heap [] 0 0 (MQx below (QR true (toC V) Z (RL Q) (PL PX) s) s) (F0 m 18 ls [.int (I3 b0)]) := by
  have hx := X.2.1
  have hb := X.2.2.1
  unfold w1_handlerOf_J18 at hw
  refine z_needR X hS hM sr0 hw gs1_275 (by omega) hl.1 (Nat.le_of_ble_eq_true rfl) dX1_handlerOf_18 (fun hc hw => ?_)
  refine lv_iload_n hx hb dX1_handlerOf_21 rfl (lv_at hl 1 rfl) ?_
  refine z_zge (tgt := 29) hx hb r1 hw dX1_handlerOf_22 (by decide) (fun hc hw => ?_) (fun hc hw => ?_)
  · refine lv_aload_n hx hb dX1_handlerOf_29 rfl (lv_at hl 0 rfl) ?_
    refine r_ga X hS f1_49 dX1_handlerOf_30 ?_
    refine lv_iload_n hx hb dX1_handlerOf_33 rfl (lv_at hl 1 rfl) ?_
    refine z_il X hS a1_49 hw dX1_handlerOf_34 (fun hw => ?_)
    exact m1_handlerOf_J35 X hM hS (lv_sub hl [] rfl) (hM 49 a1) hw
  · refine z_iconst hx hb dX1_handlerOf_25 ?_
    refine lv_goto (tgt := 35) hx hb dX1_handlerOf_26 (by decide) ?_
    exact m1_handlerOf_J35 X hM hS (lv_sub hl [] rfl) (⟨by decide, by decide⟩) hw
theorem m1_handlerOf_J17 {a1 : Int} {V : Mv} {Z : Le} {Q : Int → Prop} {PX : Px} (X : Cx E 0 h0 P0 kc0 ks0 S0 A p l R s m args meth c cX1_handlerOf 2 (some .int) 7) (hM : inM V) (hS : HS E 0 h0 P0 kc0 ks0 (fun _ => false) A s.heap P (toC V) Z s.heap [] 0 0) (hl : lv_has ls 2 [(0, .ref h0), (1, .int (I3 a1))]) (r1 : inR a1) (hw : w1_handlerOf_J17 a1 V Z Q PX) : W p l e R s m args below meth c s.heap [] 0 0 (MQx below (QR true (toC V) Z (RL Q) (PL PX) s) s) (F0 m 17 ls []) := by
  have hx := X.2.1
  have hb := X.2.2.1
  unfold w1_handlerOf_J17 at hw
  refine z_iconst hx hb dX1_handlerOf_17 ?_
  exact m1_handlerOf_J18 X hM hS (lv_sub hl [0, 1] rfl) r1 (⟨by decide, by decide⟩) hw
theorem m1_handlerOf {a1 : Int} {V : Mv} {Z : Le} {Q : Int → Prop} {PX : Px} (r1 : inR a1) (hM : inM V) (hw : w1_handlerOf a1 V Z Q PX) : MR l S0 E 0 h0 yX1_handlerOf cX1_handlerOf 2 (some .int) 7 true [.int (I3 a1)] (toC V) Z (RL Q) (PL PX) := by
  refine mr_of Gk0 (by decide) rfl (Nat.le_of_ble_eq_true rfl) ?_
  intro p e s m below meth c A P ls X hS hl
  have hl : lv_has ls 2 [(0, .ref h0), (1, .int (I3 a1))] := hl
  have hx := X.2.1
  have hb := X.2.2.1
  unfold w1_handlerOf at hw
  refine lv_iload_n hx hb dX1_handlerOf_0 rfl (lv_at hl 1 rfl) ?_
  refine z_iconst hx hb dX1_handlerOf_1 ?_
  refine z_ilt (tgt := 17) hx hb r1 (⟨by decide, by decide⟩) hw dX1_handlerOf_2 (by decide) (fun hc hw => ?_) (fun hc hw => ?_)
  · exact m1_handlerOf_J17 X hM hS (lv_sub hl [0, 1] rfl) r1 hw
  · refine lv_iload_n hx hb dX1_handlerOf_5 rfl (lv_at hl 1 rfl) ?_
    refine lv_aload_n hx hb dX1_handlerOf_6 rfl (lv_at hl 0 rfl) ?_
    refine z_gi X hS f1_50 dX1_handlerOf_7 ?_
    refine z_ige (tgt := 17) hx hb r1 (hM 50 0) hw dX1_handlerOf_10 (by decide) (fun hc hw => ?_) (fun hc hw => ?_)
    · exact m1_handlerOf_J17 X hM hS (lv_sub hl [0, 1] rfl) r1 hw
    · refine z_iconst hx hb dX1_handlerOf_13 ?_
      refine lv_goto (tgt := 18) hx hb dX1_handlerOf_14 (by decide) ?_
      exact m1_handlerOf_J18 X hM hS (lv_sub hl [0, 1] rfl) r1 (⟨by decide, by decide⟩) hw
theorem m1_promise {V : Mv} {Z : Le} {Q : Po} {PX : Px} (hM : inM V) (hw : w1_promise  V Z Q PX) : MT l S0 E 0 h0 yX1_promise cX1_promise 2 (some .int) 7 true (sbs [15, 16, 17, 18, 20]) [] (toC V) Z (QL Q) (PL PX) := by
  refine mt_of Gk0 (by decide) rfl (Nat.le_of_ble_eq_true rfl) ?_
  intro p e s m below meth c A P ls X hS hl
  have hl : lv_has ls 2 [(0, .ref h0)] := hl
  have hx := X.2.1
  have hb := X.2.2.1
  unfold w1_promise at hw
  refine lv_aload_n hx hb dX1_promise_0 rfl (lv_at hl 0 rfl) ?_
  refine z_bipush hx hb dX1_promise_1 (by decide +kernel) ?_
  refine z_cRV X hS (m1_room (⟨by decide, by decide⟩) hM hw) gv1_282 hy1_room rfl (by omega) (by decide) (by decide) hl.1 (Nat.le_of_ble_eq_true rfl) dX1_promise_3 rfl (fun x1 h2 hw => ?_)
  refine lv_aload_n hx hb dX1_promise_6 rfl (lv_at hl 0 rfl) ?_
  refine z_callI X hS (m1_newPromise  hM hw) gv1_204 hy1_newPromise rfl (by omega) (by decide) (sbs_sub rfl) hl.1 (Nat.le_of_ble_eq_true rfl) dX1_promise_7 rfl (fun x3 V5 Z6 h4 hM7 hw P8 H locs c1 s1 hP hS => ?_)
  refine lv_istore_n (lv' := [(1, .int (I3 x3)), (0, .ref h0)]) hx hb dX1_promise_10 rfl hl (by decide) rfl (fun ls hl => ?_)
  refine lv_aload_n hx hb dX1_promise_11 rfl (lv_at hl 1 rfl) ?_
  refine r_ga X hS f1_5 dX1_promise_12 ?_
  refine lv_iload_n hx hb dX1_promise_15 rfl (lv_at hl 0 rfl) ?_
  refine lv_aload_n hx hb dX1_promise_16 rfl (lv_at hl 1 rfl) ?_
  refine lv_iload_n hx hb dX1_promise_17 rfl (lv_at hl 0 rfl) ?_
  refine z_callI X hS (m1_functionsOf h4 hM7 hw) gv1_207 hy1_functionsOf rfl (by omega) (by decide) (sbs_sub rfl) hl.1 (Nat.le_of_ble_eq_true rfl) dX1_promise_18 rfl (fun x9 V11 Z12 h10 hM13 hw P14 H locs c1 s1 hP hS => ?_)
  rw [← hP 5 rfl]
  refine z_is X hS hM13 a1_5 h10 hw dX1_promise_21 (fun V15 hM16 hw H locs hS => ?_)
  refine lv_iload_n hx hb dX1_promise_22 rfl (lv_at hl 0 rfl) ?_
  refine z_vo X hS hw gs1_160 (by omega) hl.1 (Nat.le_of_ble_eq_true rfl) dX1_promise_23 (fun h17 hw => ?_)
  exact z_ri X hS hM16 h17 hw dX1_promise_26
theorem m1_handler_J51 {a1 : Int} {a2 : Int} {V : Mv} {Z : Le} {Q : Po} {PX : Px} (X : Cx E 0 h0 P0 kc0 ks0 S0 A p l R s m args meth c cX1_handler 3 (some .int) 8) (hM : inM V) (hS : HS E 0 h0 P0 kc0 ks0 (sbs [15, 16, 17, 18]) A s.heap P (toC V) Z s.heap [] 0 0) (hl : lv_has ls 3 [(0, .ref h0), (1, .int (I3 a1)), (2, .int (I3 a2))]) (r1 : inR a1) (r2 : inR a2) (hw : w1_handler_J51 a1 a2 V Z Q PX) : W p l e R s m args below meth c s.heap [] 0 0 (MQx below (QT E 0 h0 true P0 kc0 ks0 (sbs [15, 16, 17, 18]) A (QL Q) (PL PX) s) s) (F0 m 51 ls []) := by
  have hx := X.2.1
  have hb := X.2.2.1
  unfold w1_handler_J51 at hw
  refine lv_aload_n hx hb dX1_handler_51 rfl (lv_at hl 0 rfl) ?_
  refine z_gi X hS f1_50 dX1_handler_52 ?_
  refine lv_aload_n hx hb dX1_handler_55 rfl (lv_at hl 0 rfl) ?_
  refine r_ga X hS f1_49 dX1_handler_56 ?_
  refine z_len X hS a1_49 dX1_handler_59 ?_
  refine z_ine (tgt := 71) hx hb (hM 50 0) (z_lenR hS a1_49) hw dX1_handler_60 (by decide) (fun hc hw => ?_) (fun hc hw => ?_)
  · refine lv_aload_n hx hb dX1_handler_71 rfl (lv_at hl 0 rfl) ?_
    refine r_ga X hS f1_49 dX1_handler_72 ?_
    refine lv_aload_n hx hb dX1_handler_75 rfl (lv_at hl 0 rfl) ?_
    refine z_gi X hS f1_50 dX1_handler_76 ?_
    refine lv_aload_n hx hb dX1_handler_79 rfl (lv_at hl 0 rfl) ?_
    refine z_iconst hx hb dX1_handler_80 ?_
    refine lv_iload_n hx hb dX1_handler_81 rfl (lv_at hl 1 rfl) ?_
    refine lv_iload_n hx hb dX1_handler_82 rfl (lv_at hl 2 rfl) ?_
    refine lv_aload_n hx hb dX1_handler_83 rfl (lv_at hl 0 rfl) ?_
    refine z_gi X hS f1_50 dX1_handler_84 ?_
    refine z_callI X hS (m1_function (⟨by decide, by decide⟩) r1 r2 (hM 50 0) hM hw) gv1_170 hy1_function rfl (by omega) (by decide) (sbs_sub rfl) hl.1 (Nat.le_of_ble_eq_true rfl) dX1_handler_87 rfl (fun x1 V3 Z4 h2 hM5 hw P6 H locs c1 s1 hP hS => ?_)
    rw [← hP 49 rfl]
    refine z_is X hS hM5 a1_49 h2 hw dX1_handler_90 (fun V7 hM8 hw H locs hS => ?_)
    refine lv_aload_n hx hb dX1_handler_91 rfl (lv_at hl 0 rfl) ?_
    refine lv_dup hx hb dX1_handler_92 rfl ?_
    refine z_gi X hS f1_50 dX1_handler_93 ?_
    refine z_iconst hx hb dX1_handler_96 ?_
    refine z_add hx hb hw dX1_handler_97 (fun h9 hw => ?_)
    refine z_pi X hS hM8 f1_50 p1_50 h9 hw dX1_handler_98 (fun V10 hM11 hw H locs hS => ?_)
    refine lv_aload_n hx hb dX1_handler_101 rfl (lv_at hl 0 rfl) ?_
    refine z_gi X hS f1_50 dX1_handler_102 ?_
    refine z_iconst hx hb dX1_handler_105 ?_
    refine z_sub hx hb hw dX1_handler_106 (fun h12 hw => ?_)
    exact z_ri X hS hM11 h12 hw dX1_handler_107
  · exact z_thrT X hS hM hw hl.1 (by omega) dX1_handler_63 dX1_handler_66 dX1_handler_67 dX1_handler_70
theorem m1_handler_J48 {a1 : Int} {a2 : Int} {b0 : Int} {V : Mv} {Z : Le} {Q : Po} {PX : Px} (X : Cx E 0 h0 P0 kc0 ks0 S0 A p l R s m args meth c cX1_handler 3 (some .int) 8) (hM : inM V) (hS : HS E 0 h0 P0 kc0 ks0 (sbs [15, 16, 17, 18]) A s.heap P (toC V) Z s.heap [] 0 0) (hl : lv_has ls 3 [(0, .ref h0), (1, .int (I3 a1)), (2, .int (I3 a2))]) (r1 : inR a1) (r2 : inR a2) (sr0 : inR b0) (hw : w1_handler_J48 a1 a2 b0 V Z Q PX) : W p l e R s m args below meth c s.heap [] 0 0 (MQx below (QT E 0 h0 true P0 kc0 ks0 (sbs [15, 16, 17, 18]) A (QL Q) (PL PX) s) s) (F0 m 48 ls [.int (I3 b0)]) := by
  have hx := X.2.1
  have hb := X.2.2.1
  unfold w1_handler_J48 at hw
  refine z_needT X hS hM sr0 hw gs1_275 (by omega) hl.1 (Nat.le_of_ble_eq_true rfl) dX1_handler_48 (fun hc hw => ?_)
  exact m1_handler_J51 X hM hS (lv_sub hl [0, 1, 2] rfl) r1 r2 hw
theorem m1_handler_J22 {a1 : Int} {a2 : Int} {b0 : Int} {V : Mv} {Z : Le} {Q : Po} {PX : Px} (X : Cx E 0 h0 P0 kc0 ks0 S0 A p l R s m args meth c cX1_handler 3 (some .int) 8) (hM : inM V) (hS : HS E 0 h0 P0 kc0 ks0 (sbs [15, 16, 17, 18]) A s.heap P (toC V) Z s.heap [] 0 0) (hl : lv_has ls 3 [(0, .ref h0), (1, .int (I3 a1)), (2, .int (I3 a2))]) (r1 : inR a1) (r2 : inR a2) (sr0 : inR b0) (hw : w1_handler_J22 a1 a2 b0 V Z Q PX) : W p l e R s m args below meth c s.heap [] 0 0 (MQx below (QT E 0 h0 true P0 kc0 ks0 (sbs [15, 16, 17, 18]) A (QL Q) (PL PX) s) s) (F0 m 22 ls [.int (I3 b0)]) := by
  have hx := X.2.1
  have hb := X.2.2.1
  unfold w1_handler_J22 at hw
  refine z_needT X hS hM sr0 hw gs1_275 (by omega) hl.1 (Nat.le_of_ble_eq_true rfl) dX1_handler_22 (fun hc hw => ?_)
  refine lv_iload_n hx hb dX1_handler_25 rfl (lv_at hl 1 rfl) ?_
  refine z_iconst hx hb dX1_handler_26 ?_
  refine z_ile (tgt := 51) hx hb r1 (⟨by decide, by decide⟩) hw dX1_handler_27 (by decide) (fun hc hw => ?_) (fun hc hw => ?_)
  · exact m1_handler_J51 X hM hS (lv_sub hl [0, 1, 2] rfl) r1 r2 hw
  · refine lv_aload_n hx hb dX1_handler_30 rfl (lv_at hl 0 rfl) ?_
    refine r_ga X hS f1_5 dX1_handler_31 ?_
    refine lv_aload_n hx hb dX1_handler_34 rfl (lv_at hl 0 rfl) ?_
    refine lv_iload_n hx hb dX1_handler_35 rfl (lv_at hl 2 rfl) ?_
    refine z_cRI X hS (m1_promiseOf r2 hM hw) gv1_289 hy1_promiseOf rfl (by omega) (by decide) (by decide) hl.1 (Nat.le_of_ble_eq_true rfl) dX1_handler_36 rfl (fun x13 h14 hw => ?_)
    refine z_il X hS a1_5 hw dX1_handler_39 (fun hw => ?_)
    refine z_zlt (tgt := 47) hx hb (hM 5 x13) hw dX1_handler_40 (by decide) (fun hc hw => ?_) (fun hc hw => ?_)
    · refine z_iconst hx hb dX1_handler_47 ?_
      exact m1_handler_J48 X hM hS (lv_sub hl [0, 1, 2] rfl) r1 r2 (⟨by decide, by decide⟩) hw
    · refine z_iconst hx hb dX1_handler_43 ?_
      refine lv_goto (tgt := 48) hx hb dX1_handler_44 (by decide) ?_
      exact m1_handler_J48 X hM hS (lv_sub hl [0, 1, 2] rfl) r1 r2 (⟨by decide, by decide⟩) hw
theorem m1_handler_J21 {a1 : Int} {a2 : Int} {V : Mv} {Z : Le} {Q : Po} {PX : Px} (X : Cx E 0 h0 P0 kc0 ks0 S0 A p l R s m args meth c cX1_handler 3 (some .int) 8) (hM : inM V) (hS : HS E 0 h0 P0 kc0 ks0 (sbs [15, 16, 17, 18]) A s.heap P (toC V) Z s.heap [] 0 0) (hl : lv_has ls 3 [(0, .ref h0), (1, .int (I3 a1)), (2, .int (I3 a2))]) (r1 : inR a1) (r2 : inR a2) (hw : w1_handler_J21 a1 a2 V Z Q PX) : W p l e R s m args below meth c s.heap [] 0 0 (MQx below (QT E 0 h0 true P0 kc0 ks0 (sbs [15, 16, 17, 18]) A (QL Q) (PL PX) s) s) (F0 m 21 ls []) := by
  have hx := X.2.1
  have hb := X.2.2.1
  unfold w1_handler_J21 at hw
  refine z_iconst hx hb dX1_handler_21 ?_
  exact m1_handler_J22 X hM hS (lv_sub hl [0, 1, 2] rfl) r1 r2 (⟨by decide, by decide⟩) hw
theorem m1_handler {a1 : Int} {a2 : Int} {V : Mv} {Z : Le} {Q : Po} {PX : Px} (r1 : inR a1) (r2 : inR a2) (hM : inM V) (hw : w1_handler a1 a2 V Z Q PX) : MT l S0 E 0 h0 yX1_handler cX1_handler 3 (some .int) 8 true (sbs [15, 16, 17, 18]) [.int (I3 a1), .int (I3 a2)] (toC V) Z (QL Q) (PL PX) := by
  refine mt_of Gk0 (by decide) rfl (Nat.le_of_ble_eq_true rfl) ?_
  intro p e s m below meth c A P ls X hS hl
  have hl : lv_has ls 3 [(0, .ref h0), (1, .int (I3 a1)), (2, .int (I3 a2))] := hl
  have hx := X.2.1
  have hb := X.2.2.1
  unfold w1_handler at hw
  refine lv_iload_n hx hb dX1_handler_0 rfl (lv_at hl 1 rfl) ?_
  refine z_zlt (tgt := 21) hx hb r1 hw dX1_handler_1 (by decide) (fun hc hw => ?_) (fun hc hw => ?_)
  · exact m1_handler_J21 X hM hS (lv_sub hl [0, 1, 2] rfl) r1 r2 hw
  · refine lv_iload_n hx hb dX1_handler_4 rfl (lv_at hl 1 rfl) ?_
    refine z_iconst hx hb dX1_handler_5 ?_
    refine z_igt (tgt := 21) hx hb r1 (⟨by decide, by decide⟩) hw dX1_handler_6 (by decide) (fun hc hw => ?_) (fun hc hw => ?_)
    · exact m1_handler_J21 X hM hS (lv_sub hl [0, 1, 2] rfl) r1 r2 hw
    · refine lv_aload_n hx hb dX1_handler_9 rfl (lv_at hl 0 rfl) ?_
      refine lv_iload_n hx hb dX1_handler_10 rfl (lv_at hl 2 rfl) ?_
      refine z_cRI X hS (m1_isValue r2 hM hw) gv1_286 hy1_isValue rfl (by omega) (by decide) (by decide) hl.1 (Nat.le_of_ble_eq_true rfl) dX1_handler_11 rfl (fun x15 h16 hw => ?_)
      refine z_zeq (tgt := 21) hx hb h16 hw dX1_handler_14 (by decide) (fun hc hw => ?_) (fun hc hw => ?_)
      · exact m1_handler_J21 X hM hS (lv_sub hl [0, 1, 2] rfl) r1 r2 hw
      · refine z_iconst hx hb dX1_handler_17 ?_
        refine lv_goto (tgt := 22) hx hb dX1_handler_18 (by decide) ?_
        exact m1_handler_J22 X hM hS (lv_sub hl [0, 1, 2] rfl) r1 r2 (⟨by decide, by decide⟩) hw
end WALK
