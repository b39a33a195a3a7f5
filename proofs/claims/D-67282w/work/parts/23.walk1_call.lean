set_option maxRecDepth 100000
theorem dX1_call_0 : decode cX1_call 0 = .ok (.aload_n 0, 1) := by decide +kernel
theorem dX1_call_1 : decode cX1_call 1 = .ok (.iconst 0, 1) := by decide +kernel
theorem dX1_call_2 : decode cX1_call 2 = .ok (.putfield 163, 3) := by decide +kernel
theorem dX1_call_5 : decode cX1_call 5 = .ok (.aload_n 0, 1) := by decide +kernel
theorem dX1_call_6 : decode cX1_call 6 = .ok (.getfield 53, 3) := by decide +kernel
theorem dX1_call_9 : decode cX1_call 9 = .ok (.iload_n 1, 1) := by decide +kernel
theorem dX1_call_10 : decode cX1_call 10 = .ok (.iaload, 1) := by decide +kernel
theorem dX1_call_11 : decode cX1_call 11 = .ok (.tableswitch 204 0 9 #[53, 60, 60, 126, 126, 126, 126, 133, 133, 197], 53) := by decide +kernel
theorem dX1_call_64 : decode cX1_call 64 = .ok (.aload_n 0, 1) := by decide +kernel
theorem dX1_call_65 : decode cX1_call 65 = .ok (.iload_n 1, 1) := by decide +kernel
theorem dX1_call_66 : decode cX1_call 66 = .ok (.iload_n 2, 1) := by decide +kernel
theorem dX1_call_67 : decode cX1_call 67 = .ok (.invokevirtual 222, 3) := by decide +kernel
theorem dX1_call_70 : decode cX1_call 70 = .ok (.ireturn, 1) := by decide +kernel
theorem dX1_call_71 : decode cX1_call 71 = .ok (.aload_n 0, 1) := by decide +kernel
theorem dX1_call_72 : decode cX1_call 72 = .ok (.getfield 65, 3) := by decide +kernel
theorem dX1_call_75 : decode cX1_call 75 = .ok (.aload_n 0, 1) := by decide +kernel
theorem dX1_call_76 : decode cX1_call 76 = .ok (.getfield 59, 3) := by decide +kernel
theorem dX1_call_79 : decode cX1_call 79 = .ok (.iload_n 1, 1) := by decide +kernel
theorem dX1_call_80 : decode cX1_call 80 = .ok (.iaload, 1) := by decide +kernel
theorem dX1_call_81 : decode cX1_call 81 = .ok (.iaload, 1) := by decide +kernel
theorem dX1_call_82 : decode cX1_call 82 = .ok (.ifCond .eq 5, 3) := by decide +kernel
theorem dX1_call_85 : decode cX1_call 85 = .ok (.iconst (-1), 1) := by decide +kernel
theorem dX1_call_86 : decode cX1_call 86 = .ok (.ireturn, 1) := by decide +kernel
theorem dX1_call_87 : decode cX1_call 87 = .ok (.aload_n 0, 1) := by decide +kernel
theorem dX1_call_88 : decode cX1_call 88 = .ok (.getfield 65, 3) := by decide +kernel
theorem dX1_call_91 : decode cX1_call 91 = .ok (.aload_n 0, 1) := by decide +kernel
theorem dX1_call_92 : decode cX1_call 92 = .ok (.getfield 59, 3) := by decide +kernel
theorem dX1_call_95 : decode cX1_call 95 = .ok (.iload_n 1, 1) := by decide +kernel
theorem dX1_call_96 : decode cX1_call 96 = .ok (.iaload, 1) := by decide +kernel
theorem dX1_call_97 : decode cX1_call 97 = .ok (.iconst 1, 1) := by decide +kernel
theorem dX1_call_98 : decode cX1_call 98 = .ok (.iastore, 1) := by decide +kernel
theorem dX1_call_99 : decode cX1_call 99 = .ok (.aload_n 0, 1) := by decide +kernel
theorem dX1_call_100 : decode cX1_call 100 = .ok (.getfield 53, 3) := by decide +kernel
theorem dX1_call_103 : decode cX1_call 103 = .ok (.iload_n 1, 1) := by decide +kernel
theorem dX1_call_104 : decode cX1_call 104 = .ok (.iaload, 1) := by decide +kernel
theorem dX1_call_105 : decode cX1_call 105 = .ok (.iconst 1, 1) := by decide +kernel
theorem dX1_call_106 : decode cX1_call 106 = .ok (.if_icmp .ne 17, 3) := by decide +kernel
theorem dX1_call_109 : decode cX1_call 109 = .ok (.aload_n 0, 1) := by decide +kernel
theorem dX1_call_110 : decode cX1_call 110 = .ok (.aload_n 0, 1) := by decide +kernel
theorem dX1_call_111 : decode cX1_call 111 = .ok (.getfield 56, 3) := by decide +kernel
theorem dX1_call_114 : decode cX1_call 114 = .ok (.iload_n 1, 1) := by decide +kernel
theorem dX1_call_115 : decode cX1_call 115 = .ok (.iaload, 1) := by decide +kernel
theorem dX1_call_116 : decode cX1_call 116 = .ok (.iload_n 2, 1) := by decide +kernel
theorem dX1_call_117 : decode cX1_call 117 = .ok (.invokevirtual 225, 3) := by decide +kernel
theorem dX1_call_120 : decode cX1_call 120 = .ok (.goto 15, 3) := by decide +kernel
theorem dX1_call_123 : decode cX1_call 123 = .ok (.aload_n 0, 1) := by decide +kernel
theorem dX1_call_124 : decode cX1_call 124 = .ok (.aload_n 0, 1) := by decide +kernel
theorem dX1_call_125 : decode cX1_call 125 = .ok (.getfield 56, 3) := by decide +kernel
theorem dX1_call_128 : decode cX1_call 128 = .ok (.iload_n 1, 1) := by decide +kernel
theorem dX1_call_129 : decode cX1_call 129 = .ok (.iaload, 1) := by decide +kernel
theorem dX1_call_130 : decode cX1_call 130 = .ok (.iconst 2, 1) := by decide +kernel
theorem dX1_call_131 : decode cX1_call 131 = .ok (.iload_n 2, 1) := by decide +kernel
theorem dX1_call_132 : decode cX1_call 132 = .ok (.invokevirtual 194, 3) := by decide +kernel
theorem dX1_call_135 : decode cX1_call 135 = .ok (.iconst (-1), 1) := by decide +kernel
theorem dX1_call_136 : decode cX1_call 136 = .ok (.ireturn, 1) := by decide +kernel
theorem dX1_call_137 : decode cX1_call 137 = .ok (.aload_n 0, 1) := by decide +kernel
theorem dX1_call_138 : decode cX1_call 138 = .ok (.iload_n 1, 1) := by decide +kernel
theorem dX1_call_139 : decode cX1_call 139 = .ok (.iload_n 2, 1) := by decide +kernel
theorem dX1_call_140 : decode cX1_call 140 = .ok (.invokevirtual 228, 3) := by decide +kernel
theorem dX1_call_143 : decode cX1_call 143 = .ok (.ireturn, 1) := by decide +kernel
theorem dX1_call_144 : decode cX1_call 144 = .ok (.aload_n 0, 1) := by decide +kernel
theorem dX1_call_145 : decode cX1_call 145 = .ok (.aload_n 0, 1) := by decide +kernel
theorem dX1_call_146 : decode cX1_call 146 = .ok (.getfield 56, 3) := by decide +kernel
theorem dX1_call_149 : decode cX1_call 149 = .ok (.iload_n 1, 1) := by decide +kernel
theorem dX1_call_150 : decode cX1_call 150 = .ok (.iaload, 1) := by decide +kernel
theorem dX1_call_151 : decode cX1_call 151 = .ok (.iconst (-1), 1) := by decide +kernel
theorem dX1_call_152 : decode cX1_call 152 = .ok (.invokevirtual 218, 3) := by decide +kernel
theorem dX1_call_155 : decode cX1_call 155 = .ok (.istore_n 3, 1) := by decide +kernel
theorem dX1_call_156 : decode cX1_call 156 = .ok (.aload_n 0, 1) := by decide +kernel
theorem dX1_call_157 : decode cX1_call 157 = .ok (.getfield 163, 3) := by decide +kernel
theorem dX1_call_160 : decode cX1_call 160 = .ok (.ifCond .eq 5, 3) := by decide +kernel
theorem dX1_call_163 : decode cX1_call 163 = .ok (.iload_n 3, 1) := by decide +kernel
theorem dX1_call_164 : decode cX1_call 164 = .ok (.ireturn, 1) := by decide +kernel
theorem dX1_call_165 : decode cX1_call 165 = .ok (.aload_n 0, 1) := by decide +kernel
theorem dX1_call_166 : decode cX1_call 166 = .ok (.iload_n 3, 1) := by decide +kernel
theorem dX1_call_167 : decode cX1_call 167 = .ok (.invokevirtual 231, 3) := by decide +kernel
theorem dX1_call_170 : decode cX1_call 170 = .ok (.istore 4, 2) := by decide +kernel
theorem dX1_call_172 : decode cX1_call 172 = .ok (.aload_n 0, 1) := by decide +kernel
theorem dX1_call_173 : decode cX1_call 173 = .ok (.iload 4, 2) := by decide +kernel
theorem dX1_call_175 : decode cX1_call 175 = .ok (.aload_n 0, 1) := by decide +kernel
theorem dX1_call_176 : decode cX1_call 176 = .ok (.aload_n 0, 1) := by decide +kernel
theorem dX1_call_177 : decode cX1_call 177 = .ok (.getfield 53, 3) := by decide +kernel
theorem dX1_call_180 : decode cX1_call 180 = .ok (.iload_n 1, 1) := by decide +kernel
theorem dX1_call_181 : decode cX1_call 181 = .ok (.iaload, 1) := by decide +kernel
theorem dX1_call_182 : decode cX1_call 182 = .ok (.bipush 7, 2) := by decide +kernel
theorem dX1_call_184 : decode cX1_call 184 = .ok (.if_icmp .ne 8, 3) := by decide +kernel
theorem dX1_call_187 : decode cX1_call 187 = .ok (.bipush 9, 2) := by decide +kernel
theorem dX1_call_189 : decode cX1_call 189 = .ok (.goto 5, 3) := by decide +kernel
theorem dX1_call_192 : decode cX1_call 192 = .ok (.bipush 10, 2) := by decide +kernel
theorem dX1_call_194 : decode cX1_call 194 = .ok (.iload_n 2, 1) := by decide +kernel
theorem dX1_call_195 : decode cX1_call 195 = .ok (.iconst 0, 1) := by decide +kernel
theorem dX1_call_196 : decode cX1_call 196 = .ok (.iconst 0, 1) := by decide +kernel
theorem dX1_call_197 : decode cX1_call 197 = .ok (.invokevirtual 170, 3) := by decide +kernel
theorem dX1_call_200 : decode cX1_call 200 = .ok (.iconst (-1), 1) := by decide +kernel
theorem dX1_call_201 : decode cX1_call 201 = .ok (.invokevirtual 234, 3) := by decide +kernel
theorem dX1_call_204 : decode cX1_call 204 = .ok (.invokestatic 160, 3) := by decide +kernel
theorem dX1_call_207 : decode cX1_call 207 = .ok (.ireturn, 1) := by decide +kernel
theorem dX1_call_208 : decode cX1_call 208 = .ok (.aload_n 0, 1) := by decide +kernel
theorem dX1_call_209 : decode cX1_call 209 = .ok (.getfield 56, 3) := by decide +kernel
theorem dX1_call_212 : decode cX1_call 212 = .ok (.iload_n 1, 1) := by decide +kernel
theorem dX1_call_213 : decode cX1_call 213 = .ok (.iaload, 1) := by decide +kernel
theorem dX1_call_214 : decode cX1_call 214 = .ok (.ireturn, 1) := by decide +kernel
theorem dX1_call_215 : decode cX1_call 215 = .ok (.aload_n 0, 1) := by decide +kernel
theorem dX1_call_216 : decode cX1_call 216 = .ok (.aload_n 0, 1) := by decide +kernel
theorem dX1_call_217 : decode cX1_call 217 = .ok (.getfield 56, 3) := by decide +kernel
theorem dX1_call_220 : decode cX1_call 220 = .ok (.iload_n 1, 1) := by decide +kernel
theorem dX1_call_221 : decode cX1_call 221 = .ok (.iaload, 1) := by decide +kernel
theorem dX1_call_222 : decode cX1_call 222 = .ok (.invokevirtual 238, 3) := by decide +kernel
theorem dX1_call_225 : decode cX1_call 225 = .ok (.ireturn, 1) := by decide +kernel
theorem dX1_callThen_0 : decode cX1_callThen 0 = .ok (.aload_n 0, 1) := by decide +kernel
theorem dX1_callThen_1 : decode cX1_callThen 1 = .ok (.iconst 0, 1) := by decide +kernel
theorem dX1_callThen_2 : decode cX1_callThen 2 = .ok (.putfield 163, 3) := by decide +kernel
theorem dX1_callThen_5 : decode cX1_callThen 5 = .ok (.aload_n 0, 1) := by decide +kernel
theorem dX1_callThen_6 : decode cX1_callThen 6 = .ok (.iload_n 1, 1) := by decide +kernel
theorem dX1_callThen_7 : decode cX1_callThen 7 = .ok (.invokestatic 160, 3) := by decide +kernel
theorem dX1_callThen_10 : decode cX1_callThen 10 = .ok (.iconst (-1), 1) := by decide +kernel
theorem dX1_callThen_11 : decode cX1_callThen 11 = .ok (.invokevirtual 244, 3) := by decide +kernel
theorem dX1_callThen_14 : decode cX1_callThen 14 = .ok (.iconst 0, 1) := by decide +kernel
theorem dX1_callThen_15 : decode cX1_callThen 15 = .ok (.istore 4, 2) := by decide +kernel
theorem dX1_callThen_17 : decode cX1_callThen 17 = .ok (.iload 4, 2) := by decide +kernel
theorem dX1_callThen_19 : decode cX1_callThen 19 = .ok (.iconst 2, 1) := by decide +kernel
theorem dX1_callThen_20 : decode cX1_callThen 20 = .ok (.if_icmp .ge 135, 3) := by decide +kernel
theorem dX1_callThen_23 : decode cX1_callThen 23 = .ok (.aload_n 0, 1) := by decide +kernel
theorem dX1_callThen_24 : decode cX1_callThen 24 = .ok (.getfield 163, 3) := by decide +kernel
theorem dX1_callThen_27 : decode cX1_callThen 27 = .ok (.ifCond .ne 128, 3) := by decide +kernel
theorem dX1_callThen_30 : decode cX1_callThen 30 = .ok (.iload 4, 2) := by decide +kernel
theorem dX1_callThen_32 : decode cX1_callThen 32 = .ok (.ifCond .ne 12, 3) := by decide +kernel
theorem dX1_callThen_35 : decode cX1_callThen 35 = .ok (.aload_n 0, 1) := by decide +kernel
theorem dX1_callThen_36 : decode cX1_callThen 36 = .ok (.getfield 35, 3) := by decide +kernel
theorem dX1_callThen_39 : decode cX1_callThen 39 = .ok (.iload_n 1, 1) := by decide +kernel
theorem dX1_callThen_40 : decode cX1_callThen 40 = .ok (.iaload, 1) := by decide +kernel
theorem dX1_callThen_41 : decode cX1_callThen 41 = .ok (.goto 9, 3) := by decide +kernel
theorem dX1_callThen_44 : decode cX1_callThen 44 = .ok (.aload_n 0, 1) := by decide +kernel
theorem dX1_callThen_45 : decode cX1_callThen 45 = .ok (.getfield 41, 3) := by decide +kernel
theorem dX1_callThen_48 : decode cX1_callThen 48 = .ok (.iload_n 1, 1) := by decide +kernel
theorem dX1_callThen_49 : decode cX1_callThen 49 = .ok (.iaload, 1) := by decide +kernel
theorem dX1_callThen_50 : decode cX1_callThen 50 = .ok (.istore 5, 2) := by decide +kernel
theorem dX1_callThen_52 : decode cX1_callThen 52 = .ok (.iload 4, 2) := by decide +kernel
theorem dX1_callThen_54 : decode cX1_callThen 54 = .ok (.ifCond .ne 12, 3) := by decide +kernel
theorem dX1_callThen_57 : decode cX1_callThen 57 = .ok (.aload_n 0, 1) := by decide +kernel
theorem dX1_callThen_58 : decode cX1_callThen 58 = .ok (.getfield 38, 3) := by decide +kernel
theorem dX1_callThen_61 : decode cX1_callThen 61 = .ok (.iload_n 1, 1) := by decide +kernel
theorem dX1_callThen_62 : decode cX1_callThen 62 = .ok (.iaload, 1) := by decide +kernel
theorem dX1_callThen_63 : decode cX1_callThen 63 = .ok (.goto 9, 3) := by decide +kernel
theorem dX1_callThen_66 : decode cX1_callThen 66 = .ok (.aload_n 0, 1) := by decide +kernel
theorem dX1_callThen_67 : decode cX1_callThen 67 = .ok (.getfield 44, 3) := by decide +kernel
theorem dX1_callThen_70 : decode cX1_callThen 70 = .ok (.iload_n 1, 1) := by decide +kernel
theorem dX1_callThen_71 : decode cX1_callThen 71 = .ok (.iaload, 1) := by decide +kernel
theorem dX1_callThen_72 : decode cX1_callThen 72 = .ok (.istore 6, 2) := by decide +kernel
theorem dX1_callThen_74 : decode cX1_callThen 74 = .ok (.iload 5, 2) := by decide +kernel
theorem dX1_callThen_76 : decode cX1_callThen 76 = .ok (.iconst 1, 1) := by decide +kernel
theorem dX1_callThen_77 : decode cX1_callThen 77 = .ok (.if_icmp .ne 14, 3) := by decide +kernel
theorem dX1_callThen_80 : decode cX1_callThen 80 = .ok (.aload_n 0, 1) := by decide +kernel
theorem dX1_callThen_81 : decode cX1_callThen 81 = .ok (.iload_n 2, 1) := by decide +kernel
theorem dX1_callThen_82 : decode cX1_callThen 82 = .ok (.iload 6, 2) := by decide +kernel
theorem dX1_callThen_84 : decode cX1_callThen 84 = .ok (.invokevirtual 218, 3) := by decide +kernel
theorem dX1_callThen_87 : decode cX1_callThen 87 = .ok (.pop, 1) := by decide +kernel
theorem dX1_callThen_88 : decode cX1_callThen 88 = .ok (.goto 40, 3) := by decide +kernel
theorem dX1_callThen_91 : decode cX1_callThen 91 = .ok (.iload 5, 2) := by decide +kernel
theorem dX1_callThen_93 : decode cX1_callThen 93 = .ok (.iconst 2, 1) := by decide +kernel
theorem dX1_callThen_94 : decode cX1_callThen 94 = .ok (.if_icmp .ne 14, 3) := by decide +kernel
theorem dX1_callThen_97 : decode cX1_callThen 97 = .ok (.aload_n 0, 1) := by decide +kernel
theorem dX1_callThen_98 : decode cX1_callThen 98 = .ok (.iload_n 3, 1) := by decide +kernel
theorem dX1_callThen_99 : decode cX1_callThen 99 = .ok (.iload 6, 2) := by decide +kernel
theorem dX1_callThen_101 : decode cX1_callThen 101 = .ok (.invokevirtual 218, 3) := by decide +kernel
theorem dX1_callThen_104 : decode cX1_callThen 104 = .ok (.pop, 1) := by decide +kernel
theorem dX1_callThen_105 : decode cX1_callThen 105 = .ok (.goto 23, 3) := by decide +kernel
theorem dX1_callThen_108 : decode cX1_callThen 108 = .ok (.iload 5, 2) := by decide +kernel
theorem dX1_callThen_110 : decode cX1_callThen 110 = .ok (.iconst 4, 1) := by decide +kernel
theorem dX1_callThen_111 : decode cX1_callThen 111 = .ok (.if_icmp .ne 17, 3) := by decide +kernel
theorem dX1_callThen_114 : decode cX1_callThen 114 = .ok (.aload_n 0, 1) := by decide +kernel
theorem dX1_callThen_115 : decode cX1_callThen 115 = .ok (.getfield 47, 3) := by decide +kernel
theorem dX1_callThen_118 : decode cX1_callThen 118 = .ok (.iload_n 1, 1) := by decide +kernel
theorem dX1_callThen_119 : decode cX1_callThen 119 = .ok (.iload_n 2, 1) := by decide +kernel
theorem dX1_callThen_120 : decode cX1_callThen 120 = .ok (.iastore, 1) := by decide +kernel
theorem dX1_callThen_121 : decode cX1_callThen 121 = .ok (.aload_n 0, 1) := by decide +kernel
theorem dX1_callThen_122 : decode cX1_callThen 122 = .ok (.getfield 50, 3) := by decide +kernel
theorem dX1_callThen_125 : decode cX1_callThen 125 = .ok (.iload_n 1, 1) := by decide +kernel
theorem dX1_callThen_126 : decode cX1_callThen 126 = .ok (.iload_n 3, 1) := by decide +kernel
theorem dX1_callThen_127 : decode cX1_callThen 127 = .ok (.iastore, 1) := by decide +kernel
theorem dX1_callThen_128 : decode cX1_callThen 128 = .ok (.aload_n 0, 1) := by decide +kernel
theorem dX1_callThen_129 : decode cX1_callThen 129 = .ok (.iconst 0, 1) := by decide +kernel
theorem dX1_callThen_130 : decode cX1_callThen 130 = .ok (.putfield 163, 3) := by decide +kernel
theorem dX1_callThen_133 : decode cX1_callThen 133 = .ok (.iload 5, 2) := by decide +kernel
theorem dX1_callThen_135 : decode cX1_callThen 135 = .ok (.iconst 3, 1) := by decide +kernel
theorem dX1_callThen_136 : decode cX1_callThen 136 = .ok (.if_icmp .ne 13, 3) := by decide +kernel
theorem dX1_callThen_139 : decode cX1_callThen 139 = .ok (.aload_n 0, 1) := by decide +kernel
theorem dX1_callThen_140 : decode cX1_callThen 140 = .ok (.aload_n 0, 1) := by decide +kernel
theorem dX1_callThen_141 : decode cX1_callThen 141 = .ok (.iload 6, 2) := by decide +kernel
theorem dX1_callThen_143 : decode cX1_callThen 143 = .ok (.invokevirtual 238, 3) := by decide +kernel
theorem dX1_callThen_146 : decode cX1_callThen 146 = .ok (.putfield 260, 3) := by decide +kernel
theorem dX1_callThen_149 : decode cX1_callThen 149 = .ok (.iinc 4 1, 3) := by decide +kernel
theorem dX1_callThen_152 : decode cX1_callThen 152 = .ok (.goto (-135), 3) := by decide +kernel
theorem dX1_callThen_155 : decode cX1_callThen 155 = .ok (.return_, 1) := by decide +kernel
theorem dX1_goOn_0 : decode cX1_goOn 0 = .ok (.iload_n 2, 1) := by decide +kernel
theorem dX1_goOn_1 : decode cX1_goOn 1 = .ok (.iconst 2, 1) := by decide +kernel
theorem dX1_goOn_2 : decode cX1_goOn 2 = .ok (.if_icmp .ne 16, 3) := by decide +kernel
theorem dX1_goOn_5 : decode cX1_goOn 5 = .ok (.aload_n 0, 1) := by decide +kernel
theorem dX1_goOn_6 : decode cX1_goOn 6 = .ok (.aload_n 0, 1) := by decide +kernel
theorem dX1_goOn_7 : decode cX1_goOn 7 = .ok (.getfield 126, 3) := by decide +kernel
theorem dX1_goOn_10 : decode cX1_goOn 10 = .ok (.iload_n 1, 1) := by decide +kernel
theorem dX1_goOn_11 : decode cX1_goOn 11 = .ok (.iaload, 1) := by decide +kernel
theorem dX1_goOn_12 : decode cX1_goOn 12 = .ok (.iload_n 3, 1) := by decide +kernel
theorem dX1_goOn_13 : decode cX1_goOn 13 = .ok (.invokevirtual 218, 3) := by decide +kernel
theorem dX1_goOn_16 : decode cX1_goOn 16 = .ok (.pop, 1) := by decide +kernel
theorem dX1_goOn_17 : decode cX1_goOn 17 = .ok (.return_, 1) := by decide +kernel
theorem dX1_goOn_18 : decode cX1_goOn 18 = .ok (.iload_n 2, 1) := by decide +kernel
theorem dX1_goOn_19 : decode cX1_goOn 19 = .ok (.iconst 1, 1) := by decide +kernel
theorem dX1_goOn_20 : decode cX1_goOn 20 = .ok (.if_icmp .ne 46, 3) := by decide +kernel
theorem dX1_goOn_23 : decode cX1_goOn 23 = .ok (.aload_n 0, 1) := by decide +kernel
theorem dX1_goOn_24 : decode cX1_goOn 24 = .ok (.getfield 117, 3) := by decide +kernel
theorem dX1_goOn_27 : decode cX1_goOn 27 = .ok (.iload_n 1, 1) := by decide +kernel
theorem dX1_goOn_28 : decode cX1_goOn 28 = .ok (.iaload, 1) := by decide +kernel
theorem dX1_goOn_29 : decode cX1_goOn 29 = .ok (.ifCond .lt 37, 3) := by decide +kernel
theorem dX1_goOn_32 : decode cX1_goOn 32 = .ok (.aload_n 0, 1) := by decide +kernel
theorem dX1_goOn_33 : decode cX1_goOn 33 = .ok (.aload_n 0, 1) := by decide +kernel
theorem dX1_goOn_34 : decode cX1_goOn 34 = .ok (.getfield 117, 3) := by decide +kernel
theorem dX1_goOn_37 : decode cX1_goOn 37 = .ok (.iload_n 1, 1) := by decide +kernel
theorem dX1_goOn_38 : decode cX1_goOn 38 = .ok (.iaload, 1) := by decide +kernel
theorem dX1_goOn_39 : decode cX1_goOn 39 = .ok (.iload_n 3, 1) := by decide +kernel
theorem dX1_goOn_40 : decode cX1_goOn 40 = .ok (.invokevirtual 218, 3) := by decide +kernel
theorem dX1_goOn_43 : decode cX1_goOn 43 = .ok (.istore 4, 2) := by decide +kernel
theorem dX1_goOn_45 : decode cX1_goOn 45 = .ok (.aload_n 0, 1) := by decide +kernel
theorem dX1_goOn_46 : decode cX1_goOn 46 = .ok (.getfield 163, 3) := by decide +kernel
theorem dX1_goOn_49 : decode cX1_goOn 49 = .ok (.ifCond .eq 17, 3) := by decide +kernel
theorem dX1_goOn_52 : decode cX1_goOn 52 = .ok (.aload_n 0, 1) := by decide +kernel
theorem dX1_goOn_53 : decode cX1_goOn 53 = .ok (.aload_n 0, 1) := by decide +kernel
theorem dX1_goOn_54 : decode cX1_goOn 54 = .ok (.getfield 126, 3) := by decide +kernel
theorem dX1_goOn_57 : decode cX1_goOn 57 = .ok (.iload_n 1, 1) := by decide +kernel
theorem dX1_goOn_58 : decode cX1_goOn 58 = .ok (.iaload, 1) := by decide +kernel
theorem dX1_goOn_59 : decode cX1_goOn 59 = .ok (.iload 4, 2) := by decide +kernel
theorem dX1_goOn_61 : decode cX1_goOn 61 = .ok (.invokevirtual 218, 3) := by decide +kernel
theorem dX1_goOn_64 : decode cX1_goOn 64 = .ok (.pop, 1) := by decide +kernel
theorem dX1_goOn_65 : decode cX1_goOn 65 = .ok (.return_, 1) := by decide +kernel
theorem dX1_goOn_66 : decode cX1_goOn 66 = .ok (.aload_n 0, 1) := by decide +kernel
theorem dX1_goOn_67 : decode cX1_goOn 67 = .ok (.getfield 111, 3) := by decide +kernel
theorem dX1_goOn_70 : decode cX1_goOn 70 = .ok (.iload_n 1, 1) := by decide +kernel
theorem dX1_goOn_71 : decode cX1_goOn 71 = .ok (.iaload, 1) := by decide +kernel
theorem dX1_goOn_72 : decode cX1_goOn 72 = .ok (.aload_n 0, 1) := by decide +kernel
theorem dX1_goOn_73 : decode cX1_goOn 73 = .ok (.getfield 114, 3) := by decide +kernel
theorem dX1_goOn_76 : decode cX1_goOn 76 = .ok (.iload_n 1, 1) := by decide +kernel
theorem dX1_goOn_77 : decode cX1_goOn 77 = .ok (.iaload, 1) := by decide +kernel
theorem dX1_goOn_78 : decode cX1_goOn 78 = .ok (.if_icmp .ne 21, 3) := by decide +kernel
theorem dX1_goOn_81 : decode cX1_goOn 81 = .ok (.aload_n 0, 1) := by decide +kernel
theorem dX1_goOn_82 : decode cX1_goOn 82 = .ok (.aload_n 0, 1) := by decide +kernel
theorem dX1_goOn_83 : decode cX1_goOn 83 = .ok (.getfield 123, 3) := by decide +kernel
theorem dX1_goOn_86 : decode cX1_goOn 86 = .ok (.iload_n 1, 1) := by decide +kernel
theorem dX1_goOn_87 : decode cX1_goOn 87 = .ok (.iaload, 1) := by decide +kernel
theorem dX1_goOn_88 : decode cX1_goOn 88 = .ok (.aload_n 0, 1) := by decide +kernel
theorem dX1_goOn_89 : decode cX1_goOn 89 = .ok (.getfield 120, 3) := by decide +kernel
theorem dX1_goOn_92 : decode cX1_goOn 92 = .ok (.iload_n 1, 1) := by decide +kernel
theorem dX1_goOn_93 : decode cX1_goOn 93 = .ok (.iaload, 1) := by decide +kernel
theorem dX1_goOn_94 : decode cX1_goOn 94 = .ok (.invokevirtual 218, 3) := by decide +kernel
theorem dX1_goOn_97 : decode cX1_goOn 97 = .ok (.pop, 1) := by decide +kernel
theorem dX1_goOn_98 : decode cX1_goOn 98 = .ok (.return_, 1) := by decide +kernel
theorem dX1_goOn_99 : decode cX1_goOn 99 = .ok (.aload_n 0, 1) := by decide +kernel
theorem dX1_goOn_100 : decode cX1_goOn 100 = .ok (.aload_n 0, 1) := by decide +kernel
theorem dX1_goOn_101 : decode cX1_goOn 101 = .ok (.getfield 105, 3) := by decide +kernel
theorem dX1_goOn_104 : decode cX1_goOn 104 = .ok (.aload_n 0, 1) := by decide +kernel
theorem dX1_goOn_105 : decode cX1_goOn 105 = .ok (.getfield 111, 3) := by decide +kernel
theorem dX1_goOn_108 : decode cX1_goOn 108 = .ok (.iload_n 1, 1) := by decide +kernel
theorem dX1_goOn_109 : decode cX1_goOn 109 = .ok (.iaload, 1) := by decide +kernel
theorem dX1_goOn_110 : decode cX1_goOn 110 = .ok (.iaload, 1) := by decide +kernel
theorem dX1_goOn_111 : decode cX1_goOn 111 = .ok (.invokevirtual 231, 3) := by decide +kernel
theorem dX1_goOn_114 : decode cX1_goOn 114 = .ok (.istore 4, 2) := by decide +kernel
theorem dX1_goOn_116 : decode cX1_goOn 116 = .ok (.aload_n 0, 1) := by decide +kernel
theorem dX1_goOn_117 : decode cX1_goOn 117 = .ok (.getfield 111, 3) := by decide +kernel
theorem dX1_goOn_120 : decode cX1_goOn 120 = .ok (.iload_n 1, 1) := by decide +kernel
theorem dX1_goOn_121 : decode cX1_goOn 121 = .ok (.dup2, 1) := by decide +kernel
theorem dX1_goOn_122 : decode cX1_goOn 122 = .ok (.iaload, 1) := by decide +kernel
theorem dX1_goOn_123 : decode cX1_goOn 123 = .ok (.iconst 1, 1) := by decide +kernel
theorem dX1_goOn_124 : decode cX1_goOn 124 = .ok (.iadd, 1) := by decide +kernel
theorem dX1_goOn_125 : decode cX1_goOn 125 = .ok (.iastore, 1) := by decide +kernel
theorem dX1_goOn_126 : decode cX1_goOn 126 = .ok (.aload_n 0, 1) := by decide +kernel
theorem dX1_goOn_127 : decode cX1_goOn 127 = .ok (.iload 4, 2) := by decide +kernel
theorem dX1_goOn_129 : decode cX1_goOn 129 = .ok (.aload_n 0, 1) := by decide +kernel
theorem dX1_goOn_130 : decode cX1_goOn 130 = .ok (.iconst (-1), 1) := by decide +kernel
theorem dX1_goOn_131 : decode cX1_goOn 131 = .ok (.iconst (-1), 1) := by decide +kernel
theorem dX1_goOn_132 : decode cX1_goOn 132 = .ok (.iconst (-1), 1) := by decide +kernel
theorem dX1_goOn_133 : decode cX1_goOn 133 = .ok (.iconst (-1), 1) := by decide +kernel
theorem dX1_goOn_134 : decode cX1_goOn 134 = .ok (.iload_n 1, 1) := by decide +kernel
theorem dX1_goOn_135 : decode cX1_goOn 135 = .ok (.invokevirtual 210, 3) := by decide +kernel
theorem dX1_goOn_138 : decode cX1_goOn 138 = .ok (.invokevirtual 214, 3) := by decide +kernel
theorem dX1_goOn_141 : decode cX1_goOn 141 = .ok (.return_, 1) := by decide +kernel
section WALK
variable {p : Program} {l : Launch} {e : Env} {R : Room} {s : State} {m : MethodId} {args : Array Value} {below : List Frame} {meth : Method} {c : Code} {H : Heap} {locs : List Loc} {cells slots : Nat}
variable {E : Ev} {h0 : Nat} {P0 : Le} {kc0 ks0 : Nat} {S0 : State} {A : Nat → Prop} {P : Le} {ls : Array Slot}
theorem m1_call_J135 {wc : Wc} {dc : Nat} (hdc : 20 ≤ dc) (hcl : ∀ {a1 a2 : Int} {V : Mv} {Z : Le} {Q : Po} {PX : Px} (_ : inR a1) (_ : inR a2) (_ : inM V) (_ : wc a1 a2 V Z Q), MT l S0 E 0 h0 yX1_call cX1_call 5 (some .int) dc true (sbs [15, 16, 17, 18, 20, 22, 23, 24, 25, 26, 27, 29, 30, 31, 32, 38, 51, 52]) [.int (I3 a1), .int (I3 a2)] (toC V) Z (QL Q) (PL PX)) {V : Mv} {Z : Le} {Q : Po} {PX : Px} (X : Cx E 0 h0 P0 kc0 ks0 S0 A p l R s m args meth c cX1_call 5 (some .int) (dc + 3)) (hM : inM V) (hS : HS E 0 h0 P0 kc0 ks0 (sbs [15, 16, 17, 18, 20, 22, 23, 24, 25, 26, 27, 29, 30, 31, 32, 38, 51, 52]) A s.heap P (toC V) Z H locs cells slots) (hl : lv_has ls 5 []) (hw : w1_call_J135 wc  V Z Q) : W p l e R s m args below meth c H locs cells slots (MQx below (QT E 0 h0 true P0 kc0 ks0 (sbs [15, 16, 17, 18, 20, 22, 23, 24, 25, 26, 27, 29, 30, 31, 32, 38, 51, 52]) A (QL Q) (PL PX) s) s) (F0 m 135 ls []) := by
  have hx := X.2.1
  have hb := X.2.2.1
  unfold w1_call_J135 at hw
  refine z_iconst hx hb dX1_call_135 ?_
  exact z_ri X hS hM (⟨by decide, by decide⟩) hw dX1_call_136
theorem m1_call_J71 {wc : Wc} {dc : Nat} (hdc : 20 ≤ dc) (hcl : ∀ {a1 a2 : Int} {V : Mv} {Z : Le} {Q : Po} {PX : Px} (_ : inR a1) (_ : inR a2) (_ : inM V) (_ : wc a1 a2 V Z Q), MT l S0 E 0 h0 yX1_call cX1_call 5 (some .int) dc true (sbs [15, 16, 17, 18, 20, 22, 23, 24, 25, 26, 27, 29, 30, 31, 32, 38, 51, 52]) [.int (I3 a1), .int (I3 a2)] (toC V) Z (QL Q) (PL PX)) {a1 : Int} {a2 : Int} {V : Mv} {Z : Le} {Q : Po} {PX : Px} (X : Cx E 0 h0 P0 kc0 ks0 S0 A p l R s m args meth c cX1_call 5 (some .int) (dc + 3)) (hM : inM V) (hS : HS E 0 h0 P0 kc0 ks0 (sbs [15, 16, 17, 18, 20, 22, 23, 24, 25, 26, 27, 29, 30, 31, 32, 38, 51, 52]) A s.heap P (toC V) Z H locs cells slots) (hl : lv_has ls 5 [(0, .ref h0), (1, .int (I3 a1)), (2, .int (I3 a2))]) (r1 : inR a1) (r2 : inR a2) (hw : w1_call_J71 wc a1 a2 V Z Q) : W p l e R s m args below meth c H locs cells slots (MQx below (QT E 0 h0 true P0 kc0 ks0 (sbs [15, 16, 17, 18, 20, 22, 23, 24, 25, 26, 27, 29, 30, 31, 32, 38, 51, 52]) A (QL Q) (PL PX) s) s) (F0 m 71 ls []) := by
  have hx := X.2.1
  have hb := X.2.2.1
  unfold w1_call_J71 at hw
  refine lv_aload_n hx hb dX1_call_71 rfl (lv_at hl 0 rfl) ?_
  refine r_ga X hS f1_20 dX1_call_72 ?_
  refine lv_aload_n hx hb dX1_call_75 rfl (lv_at hl 0 rfl) ?_
  refine r_ga X hS f1_17 dX1_call_76 ?_
  refine lv_iload_n hx hb dX1_call_79 rfl (lv_at hl 1 rfl) ?_
  refine z_il X hS a1_17 hw dX1_call_80 (fun hw => ?_)
  refine z_il X hS a1_20 hw dX1_call_81 (fun hw => ?_)
  refine z_zeq (tgt := 87) hx hb (hM 20 (V 17 a1)) hw dX1_call_82 (by decide) (fun hc hw => ?_) (fun hc hw => ?_)
  · refine lv_aload_n hx hb dX1_call_87 rfl (lv_at hl 0 rfl) ?_
    refine r_ga X hS f1_20 dX1_call_88 ?_
    refine lv_aload_n hx hb dX1_call_91 rfl (lv_at hl 0 rfl) ?_
    refine r_ga X hS f1_17 dX1_call_92 ?_
    refine lv_iload_n hx hb dX1_call_95 rfl (lv_at hl 1 rfl) ?_
    refine z_il X hS a1_17 hw dX1_call_96 (fun hw => ?_)
    refine z_iconst hx hb dX1_call_97 ?_
    refine z_is X hS hM a1_20 (⟨by decide, by decide⟩) hw dX1_call_98 (fun V1 hM2 hw H locs hS => ?_)
    refine lv_aload_n hx hb dX1_call_99 rfl (lv_at hl 0 rfl) ?_
    refine r_ga X hS f1_15 dX1_call_100 ?_
    refine lv_iload_n hx hb dX1_call_103 rfl (lv_at hl 1 rfl) ?_
    refine z_il X hS a1_15 hw dX1_call_104 (fun hw => ?_)
    refine z_iconst hx hb dX1_call_105 ?_
    refine z_ine (tgt := 123) hx hb (hM2 15 a1) (⟨by decide, by decide⟩) hw dX1_call_106 (by decide) (fun hc hw => ?_) (fun hc hw => ?_)
    · refine lv_aload_n hx hb dX1_call_123 rfl (lv_at hl 0 rfl) ?_
      refine lv_aload_n hx hb dX1_call_124 rfl (lv_at hl 0 rfl) ?_
      refine r_ga X hS f1_16 dX1_call_125 ?_
      refine lv_iload_n hx hb dX1_call_128 rfl (lv_at hl 1 rfl) ?_
      refine z_il X hS a1_16 hw dX1_call_129 (fun hw => ?_)
      refine z_iconst hx hb dX1_call_130 ?_
      refine lv_iload_n hx hb dX1_call_131 rfl (lv_at hl 2 rfl) ?_
      refine z_callV X hS (m1_settle_2 (hM2 16 a1) (⟨by decide, by decide⟩) r2 hM2 hw) gv1_194 hy1_settle_2 rfl (by omega) (by decide) (sbs_sub rfl) hl.1 (Nat.le_of_ble_eq_true rfl) dX1_call_132 rfl (fun x3 V5 Z6 h4 hM7 hw P8 H locs c1 s1 hP hS => ?_)
      exact m1_call_J135 hdc hcl X hM7 hS (lv_sub hl [] rfl)  hw
    · refine lv_aload_n hx hb dX1_call_109 rfl (lv_at hl 0 rfl) ?_
      refine lv_aload_n hx hb dX1_call_110 rfl (lv_at hl 0 rfl) ?_
      refine r_ga X hS f1_16 dX1_call_111 ?_
      refine lv_iload_n hx hb dX1_call_114 rfl (lv_at hl 1 rfl) ?_
      refine z_il X hS a1_16 hw dX1_call_115 (fun hw => ?_)
      refine lv_iload_n hx hb dX1_call_116 rfl (lv_at hl 2 rfl) ?_
      refine z_callV X hS (m1_resolve (hM2 16 a1) r2 hM2 hw) gv1_225 hy1_resolve rfl (by omega) (by decide) (sbs_sub rfl) hl.1 (Nat.le_of_ble_eq_true rfl) dX1_call_117 rfl (fun x9 V11 Z12 h10 hM13 hw P14 H locs c1 s1 hP hS => ?_)
      refine lv_goto (tgt := 135) hx hb dX1_call_120 (by decide) ?_
      exact m1_call_J135 hdc hcl X hM13 hS (lv_sub hl [] rfl)  hw
  · refine z_iconst hx hb dX1_call_85 ?_
    exact z_ri X hS hM (⟨by decide, by decide⟩) hw dX1_call_86
theorem m1_call_J137 {wc : Wc} {dc : Nat} (hdc : 20 ≤ dc) (hcl : ∀ {a1 a2 : Int} {V : Mv} {Z : Le} {Q : Po} {PX : Px} (_ : inR a1) (_ : inR a2) (_ : inM V) (_ : wc a1 a2 V Z Q), MT l S0 E 0 h0 yX1_call cX1_call 5 (some .int) dc true (sbs [15, 16, 17, 18, 20, 22, 23, 24, 25, 26, 27, 29, 30, 31, 32, 38, 51, 52]) [.int (I3 a1), .int (I3 a2)] (toC V) Z (QL Q) (PL PX)) {a1 : Int} {a2 : Int} {V : Mv} {Z : Le} {Q : Po} {PX : Px} (X : Cx E 0 h0 P0 kc0 ks0 S0 A p l R s m args meth c cX1_call 5 (some .int) (dc + 3)) (hM : inM V) (hS : HS E 0 h0 P0 kc0 ks0 (sbs [15, 16, 17, 18, 20, 22, 23, 24, 25, 26, 27, 29, 30, 31, 32, 38, 51, 52]) A s.heap P (toC V) Z H locs cells slots) (hl : lv_has ls 5 [(0, .ref h0), (1, .int (I3 a1)), (2, .int (I3 a2))]) (r1 : inR a1) (r2 : inR a2) (hw : w1_call_J137 wc a1 a2 V Z Q) : W p l e R s m args below meth c H locs cells slots (MQx below (QT E 0 h0 true P0 kc0 ks0 (sbs [15, 16, 17, 18, 20, 22, 23, 24, 25, 26, 27, 29, 30, 31, 32, 38, 51, 52]) A (QL Q) (PL PX) s) s) (F0 m 137 ls []) := by
  have hx := X.2.1
  have hb := X.2.2.1
  unfold w1_call_J137 at hw
  refine lv_aload_n hx hb dX1_call_137 rfl (lv_at hl 0 rfl) ?_
  refine lv_iload_n hx hb dX1_call_138 rfl (lv_at hl 1 rfl) ?_
  refine lv_iload_n hx hb dX1_call_139 rfl (lv_at hl 2 rfl) ?_
  refine z_callI X hS (m1_element hdc hcl r1 r2 hM hw) gv1_228 hy1_element rfl (by omega) (by decide) (sbs_sub rfl) hl.1 (Nat.le_of_ble_eq_true rfl) dX1_call_140 rfl (fun x15 V17 Z18 h16 hM19 hw P20 H locs c1 s1 hP hS => ?_)
  exact z_ri X hS hM19 h16 hw dX1_call_143
theorem m1_call_J194 {wc : Wc} {dc : Nat} (hdc : 20 ≤ dc) (hcl : ∀ {a1 a2 : Int} {V : Mv} {Z : Le} {Q : Po} {PX : Px} (_ : inR a1) (_ : inR a2) (_ : inM V) (_ : wc a1 a2 V Z Q), MT l S0 E 0 h0 yX1_call cX1_call 5 (some .int) dc true (sbs [15, 16, 17, 18, 20, 22, 23, 24, 25, 26, 27, 29, 30, 31, 32, 38, 51, 52]) [.int (I3 a1), .int (I3 a2)] (toC V) Z (QL Q) (PL PX)) {a2 : Int} {b1 : Int} {b3 : Int} {V : Mv} {Z : Le} {Q : Po} {PX : Px} (X : Cx E 0 h0 P0 kc0 ks0 S0 A p l R s m args meth c cX1_call 5 (some .int) (dc + 3)) (hM : inM V) (hS : HS E 0 h0 P0 kc0 ks0 (sbs [15, 16, 17, 18, 20, 22, 23, 24, 25, 26, 27, 29, 30, 31, 32, 38, 51, 52]) A s.heap P (toC V) Z H locs cells slots) (hl : lv_has ls 5 [(2, .int (I3 a2))]) (r2 : inR a2) (sr1 : inR b1) (sr3 : inR b3) (hw : w1_call_J194 wc a2 b1 b3 V Z Q) : W p l e R s m args below meth c H locs cells slots (MQx below (QT E 0 h0 true P0 kc0 ks0 (sbs [15, 16, 17, 18, 20, 22, 23, 24, 25, 26, 27, 29, 30, 31, 32, 38, 51, 52]) A (QL Q) (PL PX) s) s) (F0 m 194 ls [.int (I3 b3), .ref h0, .int (I3 b1), .ref h0]) := by
  have hx := X.2.1
  have hb := X.2.2.1
  unfold w1_call_J194 at hw
  refine lv_iload_n hx hb dX1_call_194 rfl (lv_at hl 0 rfl) ?_
  refine z_iconst hx hb dX1_call_195 ?_
  refine z_iconst hx hb dX1_call_196 ?_
  refine z_callI X hS (m1_function sr3 r2 (⟨by decide, by decide⟩) (⟨by decide, by decide⟩) hM hw) gv1_170 hy1_function rfl (by omega) (by decide) (sbs_sub rfl) hl.1 (Nat.le_of_ble_eq_true rfl) dX1_call_197 rfl (fun x21 V23 Z24 h22 hM25 hw P26 H locs c1 s1 hP hS => ?_)
  refine z_iconst hx hb dX1_call_200 ?_
  refine z_callI X hS (m1_then sr1 h22 (⟨by decide, by decide⟩) hM25 hw) gv1_234 hy1_then rfl (by omega) (by decide) (sbs_sub rfl) hl.1 (Nat.le_of_ble_eq_true rfl) dX1_call_201 rfl (fun x27 V29 Z30 h28 hM31 hw P32 H locs c1 s1 hP hS => ?_)
  refine z_vo X hS hw gs1_160 (by omega) hl.1 (Nat.le_of_ble_eq_true rfl) dX1_call_204 (fun h33 hw => ?_)
  exact z_ri X hS hM31 h33 hw dX1_call_207
theorem m1_call_J144 {wc : Wc} {dc : Nat} (hdc : 20 ≤ dc) (hcl : ∀ {a1 a2 : Int} {V : Mv} {Z : Le} {Q : Po} {PX : Px} (_ : inR a1) (_ : inR a2) (_ : inM V) (_ : wc a1 a2 V Z Q), MT l S0 E 0 h0 yX1_call cX1_call 5 (some .int) dc true (sbs [15, 16, 17, 18, 20, 22, 23, 24, 25, 26, 27, 29, 30, 31, 32, 38, 51, 52]) [.int (I3 a1), .int (I3 a2)] (toC V) Z (QL Q) (PL PX)) {a1 : Int} {a2 : Int} {V : Mv} {Z : Le} {Q : Po} {PX : Px} (X : Cx E 0 h0 P0 kc0 ks0 S0 A p l R s m args meth c cX1_call 5 (some .int) (dc + 3)) (hM : inM V) (hS : HS E 0 h0 P0 kc0 ks0 (sbs [15, 16, 17, 18, 20, 22, 23, 24, 25, 26, 27, 29, 30, 31, 32, 38, 51, 52]) A s.heap P (toC V) Z H locs cells slots) (hl : lv_has ls 5 [(0, .ref h0), (1, .int (I3 a1)), (2, .int (I3 a2))]) (r1 : inR a1) (r2 : inR a2) (hw : w1_call_J144 wc a1 a2 V Z Q) : W p l e R s m args below meth c H locs cells slots (MQx below (QT E 0 h0 true P0 kc0 ks0 (sbs [15, 16, 17, 18, 20, 22, 23, 24, 25, 26, 27, 29, 30, 31, 32, 38, 51, 52]) A (QL Q) (PL PX) s) s) (F0 m 144 ls []) := by
  have hx := X.2.1
  have hb := X.2.2.1
  unfold w1_call_J144 at hw
  refine lv_aload_n hx hb dX1_call_144 rfl (lv_at hl 0 rfl) ?_
  refine lv_aload_n hx hb dX1_call_145 rfl (lv_at hl 0 rfl) ?_
  refine r_ga X hS f1_16 dX1_call_146 ?_
  refine lv_iload_n hx hb dX1_call_149 rfl (lv_at hl 1 rfl) ?_
  refine z_il X hS a1_16 hw dX1_call_150 (fun hw => ?_)
  refine z_iconst hx hb dX1_call_151 ?_
  refine z_callI X hS (hcl (hM 16 a1) (⟨by decide, by decide⟩) hM hw) gv1_218 hy1_call rfl (by omega) (by decide) (sbs_sub rfl) hl.1 (Nat.le_of_ble_eq_true rfl) dX1_call_152 rfl (fun x34 V36 Z37 h35 hM38 hw P39 H locs c1 s1 hP hS => ?_)
  refine lv_istore_n (lv' := [(3, .int (I3 x34)), (0, .ref h0), (1, .int (I3 a1)), (2, .int (I3 a2))]) hx hb dX1_call_155 rfl hl (by decide) rfl (fun ls hl => ?_)
  refine lv_aload_n hx hb dX1_call_156 rfl (lv_at hl 1 rfl) ?_
  refine z_gi X hS f1_54 dX1_call_157 ?_
  refine z_zeq (tgt := 165) hx hb (hM38 54 0) hw dX1_call_160 (by decide) (fun hc hw => ?_) (fun hc hw => ?_)
  · refine lv_aload_n hx hb dX1_call_165 rfl (lv_at hl 1 rfl) ?_
    refine lv_iload_n hx hb dX1_call_166 rfl (lv_at hl 0 rfl) ?_
    refine z_callI X hS (m1_wrapped hdc hcl h35 hM38 hw) gv1_231 hy1_wrapped rfl (by omega) (by decide) (sbs_sub rfl) hl.1 (Nat.le_of_ble_eq_true rfl) dX1_call_167 rfl (fun x40 V42 Z43 h41 hM44 hw P45 H locs c1 s1 hP hS => ?_)
    refine lv_istore (lv' := [(4, .int (I3 x40)), (3, .int (I3 x34)), (0, .ref h0), (1, .int (I3 a1)), (2, .int (I3 a2))]) hx hb dX1_call_170 hl (by decide) rfl (fun ls hl => ?_)
    refine lv_aload_n hx hb dX1_call_172 rfl (lv_at hl 2 rfl) ?_
    refine lv_iload hx hb dX1_call_173 (lv_at hl 0 rfl) ?_
    refine lv_aload_n hx hb dX1_call_175 rfl (lv_at hl 2 rfl) ?_
    refine lv_aload_n hx hb dX1_call_176 rfl (lv_at hl 2 rfl) ?_
    refine r_ga X hS f1_15 dX1_call_177 ?_
    refine lv_iload_n hx hb dX1_call_180 rfl (lv_at hl 3 rfl) ?_
    refine z_il X hS a1_15 hw dX1_call_181 (fun hw => ?_)
    refine z_bipush hx hb dX1_call_182 (by decide +kernel) ?_
    refine z_ine (tgt := 192) hx hb (hM44 15 a1) (⟨by decide, by decide⟩) hw dX1_call_184 (by decide) (fun hc hw => ?_) (fun hc hw => ?_)
    · refine z_bipush hx hb dX1_call_192 (by decide +kernel) ?_
      exact m1_call_J194 hdc hcl X hM44 hS (lv_sub hl [4] rfl) r2 h41 (⟨by decide, by decide⟩) hw
    · refine z_bipush hx hb dX1_call_187 (by decide +kernel) ?_
      refine lv_goto (tgt := 194) hx hb dX1_call_189 (by decide) ?_
      exact m1_call_J194 hdc hcl X hM44 hS (lv_sub hl [4] rfl) r2 h41 (⟨by decide, by decide⟩) hw
  · refine lv_iload_n hx hb dX1_call_163 rfl (lv_at hl 0 rfl) ?_
    exact z_ri X hS hM38 h35 hw dX1_call_164
theorem m1_callF {wc : Wc} {dc : Nat} (hdc : 20 ≤ dc) (hcl : ∀ {a1 a2 : Int} {V : Mv} {Z : Le} {Q : Po} {PX : Px} (_ : inR a1) (_ : inR a2) (_ : inM V) (_ : wc a1 a2 V Z Q), MT l S0 E 0 h0 yX1_call cX1_call 5 (some .int) dc true (sbs [15, 16, 17, 18, 20, 22, 23, 24, 25, 26, 27, 29, 30, 31, 32, 38, 51, 52]) [.int (I3 a1), .int (I3 a2)] (toC V) Z (QL Q) (PL PX)) {a1 : Int} {a2 : Int} {V : Mv} {Z : Le} {Q : Po} {PX : Px} (r1 : inR a1) (r2 : inR a2) (hM : inM V) (hw : w1_callF wc a1 a2 V Z Q) : MT l S0 E 0 h0 yX1_call cX1_call 5 (some .int) (dc + 3) true (sbs [15, 16, 17, 18, 20, 22, 23, 24, 25, 26, 27, 29, 30, 31, 32, 38, 51, 52]) [.int (I3 a1), .int (I3 a2)] (toC V) Z (QL Q) (PL PX) := by
  refine mt_of Gk0 (by decide) rfl (Nat.le_of_ble_eq_true rfl) ?_
  intro p e s m below meth c A P ls X hS hl
  have hl : lv_has ls 5 [(0, .ref h0), (1, .int (I3 a1)), (2, .int (I3 a2))] := hl
  have hx := X.2.1
  have hb := X.2.2.1
  unfold w1_callF at hw
  refine lv_aload_n hx hb dX1_call_0 rfl (lv_at hl 0 rfl) ?_
  refine z_iconst hx hb dX1_call_1 ?_
  refine z_pz X hS hM f1_54 p1_54 (⟨by decide, by decide⟩) hw dX1_call_2 (fun V46 hM47 hw H locs hS => ?_)
  refine lv_aload_n hx hb dX1_call_5 rfl (lv_at hl 0 rfl) ?_
  refine r_ga X hS f1_15 dX1_call_6 ?_
  refine lv_iload_n hx hb dX1_call_9 rfl (lv_at hl 1 rfl) ?_
  refine z_il X hS a1_15 hw dX1_call_10 (fun hw => ?_)
  refine z_case hw (fun hc hw => ?_) (fun hc0 hw => ?_)
  · refine z_tin (tgt := 64) (a := 0) hx hb (hM47 15 a1) hc dX1_call_11 (by decide) (by decide) rfl (by decide) ?_
    refine lv_aload_n hx hb dX1_call_64 rfl (lv_at hl 0 rfl) ?_
    refine lv_iload_n hx hb dX1_call_65 rfl (lv_at hl 1 rfl) ?_
    refine lv_iload_n hx hb dX1_call_66 rfl (lv_at hl 2 rfl) ?_
    refine z_callI X hS (m1_user hdc hcl r1 r2 hM47 hw) gv1_222 hy1_user rfl (by omega) (by decide) (sbs_sub rfl) hl.1 (Nat.le_of_ble_eq_true rfl) dX1_call_67 rfl (fun x48 V50 Z51 h49 hM52 hw P53 H locs c1 s1 hP hS => ?_)
    exact z_ri X hS hM52 h49 hw dX1_call_70
  refine z_case hw (fun hc hw => ?_) (fun hc1 hw => ?_)
  · refine z_tin (tgt := 71) (a := 1) hx hb (hM47 15 a1) hc dX1_call_11 (by decide) (by decide) rfl (by decide) ?_
    exact m1_call_J71 hdc hcl X hM47 hS (lv_sub hl [0, 1, 2] rfl) r1 r2 hw
  refine z_case hw (fun hc hw => ?_) (fun hc2 hw => ?_)
  · refine z_tin (tgt := 71) (a := 2) hx hb (hM47 15 a1) hc dX1_call_11 (by decide) (by decide) rfl (by decide) ?_
    exact m1_call_J71 hdc hcl X hM47 hS (lv_sub hl [0, 1, 2] rfl) r1 r2 hw
  refine z_case hw (fun hc hw => ?_) (fun hc3 hw => ?_)
  · refine z_tin (tgt := 137) (a := 3) hx hb (hM47 15 a1) hc dX1_call_11 (by decide) (by decide) rfl (by decide) ?_
    exact m1_call_J137 hdc hcl X hM47 hS (lv_sub hl [0, 1, 2] rfl) r1 r2 hw
  refine z_case hw (fun hc hw => ?_) (fun hc4 hw => ?_)
  · refine z_tin (tgt := 137) (a := 4) hx hb (hM47 15 a1) hc dX1_call_11 (by decide) (by decide) rfl (by decide) ?_
    exact m1_call_J137 hdc hcl X hM47 hS (lv_sub hl [0, 1, 2] rfl) r1 r2 hw
  refine z_case hw (fun hc hw => ?_) (fun hc5 hw => ?_)
  · refine z_tin (tgt := 137) (a := 5) hx hb (hM47 15 a1) hc dX1_call_11 (by decide) (by decide) rfl (by decide) ?_
    exact m1_call_J137 hdc hcl X hM47 hS (lv_sub hl [0, 1, 2] rfl) r1 r2 hw
  refine z_case hw (fun hc hw => ?_) (fun hc6 hw => ?_)
  · refine z_tin (tgt := 137) (a := 6) hx hb (hM47 15 a1) hc dX1_call_11 (by decide) (by decide) rfl (by decide) ?_
    exact m1_call_J137 hdc hcl X hM47 hS (lv_sub hl [0, 1, 2] rfl) r1 r2 hw
  refine z_case hw (fun hc hw => ?_) (fun hc7 hw => ?_)
  · refine z_tin (tgt := 144) (a := 7) hx hb (hM47 15 a1) hc dX1_call_11 (by decide) (by decide) rfl (by decide) ?_
    exact m1_call_J144 hdc hcl X hM47 hS (lv_sub hl [0, 1, 2] rfl) r1 r2 hw
  refine z_case hw (fun hc hw => ?_) (fun hc8 hw => ?_)
  · refine z_tin (tgt := 144) (a := 8) hx hb (hM47 15 a1) hc dX1_call_11 (by decide) (by decide) rfl (by decide) ?_
    exact m1_call_J144 hdc hcl X hM47 hS (lv_sub hl [0, 1, 2] rfl) r1 r2 hw
  refine z_case hw (fun hc hw => ?_) (fun hc9 hw => ?_)
  · refine z_tin (tgt := 208) (a := 9) hx hb (hM47 15 a1) hc dX1_call_11 (by decide) (by decide) rfl (by decide) ?_
    refine lv_aload_n hx hb dX1_call_208 rfl (lv_at hl 0 rfl) ?_
    refine r_ga X hS f1_16 dX1_call_209 ?_
    refine lv_iload_n hx hb dX1_call_212 rfl (lv_at hl 1 rfl) ?_
    refine z_il X hS a1_16 hw dX1_call_213 (fun hw => ?_)
    exact z_ri X hS hM47 (hM47 16 a1) hw dX1_call_214
  refine z_tout (tgt := 215) hx hb (hM47 15 a1) dX1_call_11 (by omega) (by decide) ?_
  refine lv_aload_n hx hb dX1_call_215 rfl (lv_at hl 0 rfl) ?_
  refine lv_aload_n hx hb dX1_call_216 rfl (lv_at hl 0 rfl) ?_
  refine r_ga X hS f1_16 dX1_call_217 ?_
  refine lv_iload_n hx hb dX1_call_220 rfl (lv_at hl 1 rfl) ?_
  refine z_il X hS a1_16 hw dX1_call_221 (fun hw => ?_)
  refine z_callI X hS (m1_raise (hM47 16 a1) hM47 hw) gv1_238 hy1_raise rfl (by omega) (by decide) (sbs_sub rfl) hl.1 (Nat.le_of_ble_eq_true rfl) dX1_call_222 rfl (fun x54 V56 Z57 h55 hM58 hw P59 H locs c1 s1 hP hS => ?_)
  exact z_ri X hS hM58 h55 hw dX1_call_225
theorem m1_call : ∀ (n : Nat) {a1 a2 : Int} {V : Mv} {Z : Le} {Q : Po} {PX : Px} (r1 : inR a1) (r2 : inR a2) (hM : inM V) (hw : w1_call n a1 a2 V Z Q), MT l S0 E 0 h0 yX1_call cX1_call 5 (some .int) (20 + 3 * n) true (sbs [15, 16, 17, 18, 20, 22, 23, 24, 25, 26, 27, 29, 30, 31, 32, 38, 51, 52]) [.int (I3 a1), .int (I3 a2)] (toC V) Z (QL Q) (PL PX)
  | 0, _, _, _, _, _, _, _, _, _, hw => hw.elim
  | n + 1, _, _, _, _, _, _, r1, r2, hM, hw => m1_callF (dc := 20 + 3 * n) (by omega) (m1_call n) r1 r2 hM hw
theorem m1_callThen_J155 {V : Mv} {Z : Le} {Q : Po} {PX : Px} (X : Cx E 0 h0 P0 kc0 ks0 S0 A p l R s m args meth c cX1_callThen 7 none 30) (hM : inM V) (hS : HS E 0 h0 P0 kc0 ks0 (sbs [15, 16, 17, 18, 20, 22, 23, 24, 25, 26, 27, 29, 30, 31, 32, 38, 51, 52]) A s.heap P (toC V) Z H locs cells slots) (hl : lv_has ls 7 []) (hw : w1_callThen_J155  V Z Q) : W p l e R s m args below meth c H locs cells slots (MQx below (QT E 0 h0 false P0 kc0 ks0 (sbs [15, 16, 17, 18, 20, 22, 23, 24, 25, 26, 27, 29, 30, 31, 32, 38, 51, 52]) A (QL Q) (PL PX) s) s) (F0 m 155 ls []) := by
  have hx := X.2.1
  have hb := X.2.2.1
  unfold w1_callThen_J155 at hw
  exact z_rv X hS hM hw dX1_callThen_155
theorem m1_callThen_J149 {L : Int → Int → Int → Int → Mv → Le → Prop} {a1 : Int} {a2 : Int} {a3 : Int} {a4 : Int} {V : Mv} {Z : Le} {Q : Po} {PX : Px} (hL : ∀ {a1 : Int} {a2 : Int} {a3 : Int} {a4 : Int} {V : Mv} {Z : Le} {P : Le} {H : Heap} {locs : List Loc} {cells slots : Nat} {ls : Array Slot}, inM V → HS E 0 h0 P0 kc0 ks0 (sbs [15, 16, 17, 18, 20, 22, 23, 24, 25, 26, 27, 29, 30, 31, 32, 38, 51, 52]) A s.heap P (toC V) Z H locs cells slots → lv_has ls 7 [(0, .ref h0), (1, .int (I3 a1)), (2, .int (I3 a2)), (3, .int (I3 a3)), (4, .int (I3 a4))] → inR a1 → inR a2 → inR a3 → inR a4 → L a1 a2 a3 a4 V Z → W p l e R s m args below meth c H locs cells slots (MQx below (QT E 0 h0 false P0 kc0 ks0 (sbs [15, 16, 17, 18, 20, 22, 23, 24, 25, 26, 27, 29, 30, 31, 32, 38, 51, 52]) A (QL Q) (PL PX) s) s) (F0 m 17 ls [])) (X : Cx E 0 h0 P0 kc0 ks0 S0 A p l R s m args meth c cX1_callThen 7 none 30) (hM : inM V) (hS : HS E 0 h0 P0 kc0 ks0 (sbs [15, 16, 17, 18, 20, 22, 23, 24, 25, 26, 27, 29, 30, 31, 32, 38, 51, 52]) A s.heap P (toC V) Z H locs cells slots) (hl : lv_has ls 7 [(0, .ref h0), (1, .int (I3 a1)), (2, .int (I3 a2)), (3, .int (I3 a3)), (4, .int (I3 a4))]) (r1 : inR a1) (r2 : inR a2) (r3 : inR a3) (r4 : inR a4) (hw : w1_callThen_J149 L a1 a2 a3 a4 V Z Q) : W p l e R s m args below meth c H locs cells slots (MQx below (QT E 0 h0 false P0 kc0 ks0 (sbs [15, 16, 17, 18, 20, 22, 23, 24, 25, 26, 27, 29, 30, 31, 32, 38, 51, 52]) A (QL Q) (PL PX) s) s) (F0 m 149 ls []) := by
  have hx := X.2.1
  have hb := X.2.2.1
  unfold w1_callThen_J149 at hw
  refine z_inc (k := 4) (lv' := [(4, .int (I3 (a4 + 1))), (0, .ref h0), (1, .int (I3 a1)), (2, .int (I3 a2)), (3, .int (I3 a3))]) hx hb hw dX1_callThen_149 hl rfl (by decide) rfl (fun ls hl h1 hw => ?_)
  refine lv_goto (tgt := 17) hx hb dX1_callThen_152 (by decide) ?_
  exact hL hM hS (lv_sub hl [1, 2, 3, 4, 0] rfl)  r1 r2 r3 h1 hw
theorem m1_callThen_J128 {L : Int → Int → Int → Int → Mv → Le → Prop} {a1 : Int} {a2 : Int} {a3 : Int} {a4 : Int} {a5 : Int} {a6 : Int} {V : Mv} {Z : Le} {Q : Po} {PX : Px} (hL : ∀ {a1 : Int} {a2 : Int} {a3 : Int} {a4 : Int} {V : Mv} {Z : Le} {P : Le} {H : Heap} {locs : List Loc} {cells slots : Nat} {ls : Array Slot}, inM V → HS E 0 h0 P0 kc0 ks0 (sbs [15, 16, 17, 18, 20, 22, 23, 24, 25, 26, 27, 29, 30, 31, 32, 38, 51, 52]) A s.heap P (toC V) Z H locs cells slots → lv_has ls 7 [(0, .ref h0), (1, .int (I3 a1)), (2, .int (I3 a2)), (3, .int (I3 a3)), (4, .int (I3 a4))] → inR a1 → inR a2 → inR a3 → inR a4 → L a1 a2 a3 a4 V Z → W p l e R s m args below meth c H locs cells slots (MQx below (QT E 0 h0 false P0 kc0 ks0 (sbs [15, 16, 17, 18, 20, 22, 23, 24, 25, 26, 27, 29, 30, 31, 32, 38, 51, 52]) A (QL Q) (PL PX) s) s) (F0 m 17 ls [])) (X : Cx E 0 h0 P0 kc0 ks0 S0 A p l R s m args meth c cX1_callThen 7 none 30) (hM : inM V) (hS : HS E 0 h0 P0 kc0 ks0 (sbs [15, 16, 17, 18, 20, 22, 23, 24, 25, 26, 27, 29, 30, 31, 32, 38, 51, 52]) A s.heap P (toC V) Z H locs cells slots) (hl : lv_has ls 7 [(0, .ref h0), (1, .int (I3 a1)), (2, .int (I3 a2)), (3, .int (I3 a3)), (4, .int (I3 a4)), (5, .int (I3 a5)), (6, .int (I3 a6))]) (r1 : inR a1) (r2 : inR a2) (r3 : inR a3) (r4 : inR a4) (r5 : inR a5) (r6 : inR a6) (hw : w1_callThen_J128 L a1 a2 a3 a4 a5 a6 V Z Q) : W p l e R s m args below meth c H locs cells slots (MQx below (QT E 0 h0 false P0 kc0 ks0 (sbs [15, 16, 17, 18, 20, 22, 23, 24, 25, 26, 27, 29, 30, 31, 32, 38, 51, 52]) A (QL Q) (PL PX) s) s) (F0 m 128 ls []) := by
  have hx := X.2.1
  have hb := X.2.2.1
  unfold w1_callThen_J128 at hw
  refine lv_aload_n hx hb dX1_callThen_128 rfl (lv_at hl 0 rfl) ?_
  refine z_iconst hx hb dX1_callThen_129 ?_
  refine z_pz X hS hM f1_54 p1_54 (⟨by decide, by decide⟩) hw dX1_callThen_130 (fun V2 hM3 hw H locs hS => ?_)
  refine lv_iload hx hb dX1_callThen_133 (lv_at hl 5 rfl) ?_
  refine z_iconst hx hb dX1_callThen_135 ?_
  refine z_ine (tgt := 149) hx hb r5 (⟨by decide, by decide⟩) hw dX1_callThen_136 (by decide) (fun hc hw => ?_) (fun hc hw => ?_)
  · exact m1_callThen_J149 hL X hM3 hS (lv_sub hl [0, 1, 2, 3, 4] rfl) r1 r2 r3 r4 hw
  · refine lv_aload_n hx hb dX1_callThen_139 rfl (lv_at hl 0 rfl) ?_
    refine lv_aload_n hx hb dX1_callThen_140 rfl (lv_at hl 0 rfl) ?_
    refine lv_iload hx hb dX1_callThen_141 (lv_at hl 6 rfl) ?_
    refine z_callI X hS (m1_raise r6 hM3 hw) gv1_238 hy1_raise rfl (by omega) (by decide) (sbs_sub rfl) hl.1 (Nat.le_of_ble_eq_true rfl) dX1_callThen_143 rfl (fun x4 V6 Z7 h5 hM8 hw P9 H locs c1 s1 hP hS => ?_)
    refine z_pi X hS hM8 f1_55 p1_55 h5 hw dX1_callThen_146 (fun V10 hM11 hw H locs hS => ?_)
    exact m1_callThen_J149 hL X hM11 hS (lv_sub hl [0, 1, 2, 3, 4] rfl) r1 r2 r3 r4 hw
theorem m1_callThen_J72 {L : Int → Int → Int → Int → Mv → Le → Prop} {a1 : Int} {a2 : Int} {a3 : Int} {a4 : Int} {a5 : Int} {b0 : Int} {V : Mv} {Z : Le} {Q : Po} {PX : Px} (hL : ∀ {a1 : Int} {a2 : Int} {a3 : Int} {a4 : Int} {V : Mv} {Z : Le} {P : Le} {H : Heap} {locs : List Loc} {cells slots : Nat} {ls : Array Slot}, inM V → HS E 0 h0 P0 kc0 ks0 (sbs [15, 16, 17, 18, 20, 22, 23, 24, 25, 26, 27, 29, 30, 31, 32, 38, 51, 52]) A s.heap P (toC V) Z H locs cells slots → lv_has ls 7 [(0, .ref h0), (1, .int (I3 a1)), (2, .int (I3 a2)), (3, .int (I3 a3)), (4, .int (I3 a4))] → inR a1 → inR a2 → inR a3 → inR a4 → L a1 a2 a3 a4 V Z → W p l e R s m args below meth c H locs cells slots (MQx below (QT E 0 h0 false P0 kc0 ks0 (sbs [15, 16, 17, 18, 20, 22, 23, 24, 25, 26, 27, 29, 30, 31, 32, 38, 51, 52]) A (QL Q) (PL PX) s) s) (F0 m 17 ls [])) (X : Cx E 0 h0 P0 kc0 ks0 S0 A p l R s m args meth c cX1_callThen 7 none 30) (hM : inM V) (hS : HS E 0 h0 P0 kc0 ks0 (sbs [15, 16, 17, 18, 20, 22, 23, 24, 25, 26, 27, 29, 30, 31, 32, 38, 51, 52]) A s.heap P (toC V) Z H locs cells slots) (hl : lv_has ls 7 [(0, .ref h0), (1, .int (I3 a1)), (2, .int (I3 a2)), (3, .int (I3 a3)), (4, .int (I3 a4)), (5, .int (I3 a5))]) (r1 : inR a1) (r2 : inR a2) (r3 : inR a3) (r4 : inR a4) (r5 : inR a5) (sr0 : inR b0) (hw : w1_callThen_J72 L a1 a2 a3 a4 a5 b0 V Z Q) : W p l e R s m args below meth c H locs cells slots (MQx below (QT E 0 h0 false P0 kc0 ks0 (sbs [15, 16, 17, 18, 20, 22, 23, 24, 25, 26, 27, 29, 30, 31, 32, 38, 51, 52]) A (QL Q) (PL PX) s) s) (F0 m 72 ls [.int (I3 b0)]) := by
  have hx := X.2.1
  have hb := X.2.2.1
  unfold w1_callThen_J72 at hw
  refine lv_istore (lv' := [(6, .int (I3 b0)), (0, .ref h0), (1, .int (I3 a1)), (2, .int (I3 a2)), (3, .int (I3 a3)), (4, .int (I3 a4)), (5, .int (I3 a5))]) hx hb dX1_callThen_72 hl (by decide) rfl (fun ls hl => ?_)
  refine lv_iload hx hb dX1_callThen_74 (lv_at hl 6 rfl) ?_
  refine z_iconst hx hb dX1_callThen_76 ?_
  refine z_ine (tgt := 91) hx hb r5 (⟨by decide, by decide⟩) hw dX1_callThen_77 (by decide) (fun hc hw => ?_) (fun hc hw => ?_)
  · refine lv_iload hx hb dX1_callThen_91 (lv_at hl 6 rfl) ?_
    refine z_iconst hx hb dX1_callThen_93 ?_
    refine z_ine (tgt := 108) hx hb r5 (⟨by decide, by decide⟩) hw dX1_callThen_94 (by decide) (fun hc hw => ?_) (fun hc hw => ?_)
    · refine lv_iload hx hb dX1_callThen_108 (lv_at hl 6 rfl) ?_
      refine z_iconst hx hb dX1_callThen_110 ?_
      refine z_ine (tgt := 128) hx hb r5 (⟨by decide, by decide⟩) hw dX1_callThen_111 (by decide) (fun hc hw => ?_) (fun hc hw => ?_)
      · exact m1_callThen_J128 hL X hM hS (lv_sub hl [1, 2, 3, 4, 5, 6, 0] rfl) r1 r2 r3 r4 r5 sr0 hw
      · refine lv_aload_n hx hb dX1_callThen_114 rfl (lv_at hl 1 rfl) ?_
        refine r_ga X hS f1_13 dX1_callThen_115 ?_
        refine lv_iload_n hx hb dX1_callThen_118 rfl (lv_at hl 2 rfl) ?_
        refine lv_iload_n hx hb dX1_callThen_119 rfl (lv_at hl 3 rfl) ?_
        refine z_is X hS hM a1_13 r2 hw dX1_callThen_120 (fun V12 hM13 hw H locs hS => ?_)
        refine lv_aload_n hx hb dX1_callThen_121 rfl (lv_at hl 1 rfl) ?_
        refine r_ga X hS f1_14 dX1_callThen_122 ?_
        refine lv_iload_n hx hb dX1_callThen_125 rfl (lv_at hl 2 rfl) ?_
        refine lv_iload_n hx hb dX1_callThen_126 rfl (lv_at hl 4 rfl) ?_
        refine z_is X hS hM13 a1_14 r3 hw dX1_callThen_127 (fun V14 hM15 hw H locs hS => ?_)
        exact m1_callThen_J128 hL X hM15 hS (lv_sub hl [1, 2, 3, 4, 5, 6, 0] rfl) r1 r2 r3 r4 r5 sr0 hw
    · refine lv_aload_n hx hb dX1_callThen_97 rfl (lv_at hl 1 rfl) ?_
      refine lv_iload_n hx hb dX1_callThen_98 rfl (lv_at hl 4 rfl) ?_
      refine lv_iload hx hb dX1_callThen_99 (lv_at hl 0 rfl) ?_
      refine z_callI X hS (m1_call 3 r3 sr0 hM hw) gv1_218 hy1_call rfl (by omega) (by decide) (sbs_sub rfl) hl.1 (Nat.le_of_ble_eq_true rfl) dX1_callThen_101 rfl (fun x16 V18 Z19 h17 hM20 hw P21 H locs c1 s1 hP hS => ?_)
      refine lv_pop hx hb dX1_callThen_104 rfl ?_
      refine lv_goto (tgt := 128) hx hb dX1_callThen_105 (by decide) ?_
      exact m1_callThen_J128 hL X hM20 hS (lv_sub hl [1, 2, 3, 4, 5, 6, 0] rfl) r1 r2 r3 r4 r5 sr0 hw
  · refine lv_aload_n hx hb dX1_callThen_80 rfl (lv_at hl 1 rfl) ?_
    refine lv_iload_n hx hb dX1_callThen_81 rfl (lv_at hl 3 rfl) ?_
    refine lv_iload hx hb dX1_callThen_82 (lv_at hl 0 rfl) ?_
    refine z_callI X hS (m1_call 3 r2 sr0 hM hw) gv1_218 hy1_call rfl (by omega) (by decide) (sbs_sub rfl) hl.1 (Nat.le_of_ble_eq_true rfl) dX1_callThen_84 rfl (fun x22 V24 Z25 h23 hM26 hw P27 H locs c1 s1 hP hS => ?_)
    refine lv_pop hx hb dX1_callThen_87 rfl ?_
    refine lv_goto (tgt := 128) hx hb dX1_callThen_88 (by decide) ?_
    exact m1_callThen_J128 hL X hM26 hS (lv_sub hl [1, 2, 3, 4, 5, 6, 0] rfl) r1 r2 r3 r4 r5 sr0 hw
theorem m1_callThen_J50 {L : Int → Int → Int → Int → Mv → Le → Prop} {a1 : Int} {a2 : Int} {a3 : Int} {a4 : Int} {b0 : Int} {V : Mv} {Z : Le} {Q : Po} {PX : Px} (hL : ∀ {a1 : Int} {a2 : Int} {a3 : Int} {a4 : Int} {V : Mv} {Z : Le} {P : Le} {H : Heap} {locs : List Loc} {cells slots : Nat} {ls : Array Slot}, inM V → HS E 0 h0 P0 kc0 ks0 (sbs [15, 16, 17, 18, 20, 22, 23, 24, 25, 26, 27, 29, 30, 31, 32, 38, 51, 52]) A s.heap P (toC V) Z H locs cells slots → lv_has ls 7 [(0, .ref h0), (1, .int (I3 a1)), (2, .int (I3 a2)), (3, .int (I3 a3)), (4, .int (I3 a4))] → inR a1 → inR a2 → inR a3 → inR a4 → L a1 a2 a3 a4 V Z → W p l e R s m args below meth c H locs cells slots (MQx below (QT E 0 h0 false P0 kc0 ks0 (sbs [15, 16, 17, 18, 20, 22, 23, 24, 25, 26, 27, 29, 30, 31, 32, 38, 51, 52]) A (QL Q) (PL PX) s) s) (F0 m 17 ls [])) (X : Cx E 0 h0 P0 kc0 ks0 S0 A p l R s m args meth c cX1_callThen 7 none 30) (hM : inM V) (hS : HS E 0 h0 P0 kc0 ks0 (sbs [15, 16, 17, 18, 20, 22, 23, 24, 25, 26, 27, 29, 30, 31, 32, 38, 51, 52]) A s.heap P (toC V) Z H locs cells slots) (hl : lv_has ls 7 [(0, .ref h0), (1, .int (I3 a1)), (2, .int (I3 a2)), (3, .int (I3 a3)), (4, .int (I3 a4))]) (r1 : inR a1) (r2 : inR a2) (r3 : inR a3) (r4 : inR a4) (sr0 : inR b0) (hw : w1_callThen_J50 L a1 a2 a3 a4 b0 V Z Q) : W p l e R s m args below meth c H locs cells slots (MQx below (QT E 0 h0 false P0 kc0 ks0 (sbs [15, 16, 17, 18, 20, 22, 23, 24, 25, 26, 27, 29, 30, 31, 32, 38, 51, 52]) A (QL Q) (PL PX) s) s) (F0 m 50 ls [.int (I3 b0)]) := by
  have hx := X.2.1
  have hb := X.2.2.1
  unfold w1_callThen_J50 at hw
  refine lv_istore (lv' := [(5, .int (I3 b0)), (0, .ref h0), (1, .int (I3 a1)), (2, .int (I3 a2)), (3, .int (I3 a3)), (4, .int (I3 a4))]) hx hb dX1_callThen_50 hl (by decide) rfl (fun ls hl => ?_)
  refine lv_iload hx hb dX1_callThen_52 (lv_at hl 5 rfl) ?_
  refine z_zne (tgt := 66) hx hb r4 hw dX1_callThen_54 (by decide) (fun hc hw => ?_) (fun hc hw => ?_)
  · refine lv_aload_n hx hb dX1_callThen_66 rfl (lv_at hl 1 rfl) ?_
    refine r_ga X hS f1_12 dX1_callThen_67 ?_
    refine lv_iload_n hx hb dX1_callThen_70 rfl (lv_at hl 2 rfl) ?_
    refine z_il X hS a1_12 hw dX1_callThen_71 (fun hw => ?_)
    exact m1_callThen_J72 hL X hM hS (lv_sub hl [1, 2, 3, 4, 5, 0] rfl) r1 r2 r3 r4 sr0 (hM 12 a1) hw
  · refine lv_aload_n hx hb dX1_callThen_57 rfl (lv_at hl 1 rfl) ?_
    refine r_ga X hS f1_10 dX1_callThen_58 ?_
    refine lv_iload_n hx hb dX1_callThen_61 rfl (lv_at hl 2 rfl) ?_
    refine z_il X hS a1_10 hw dX1_callThen_62 (fun hw => ?_)
    refine lv_goto (tgt := 72) hx hb dX1_callThen_63 (by decide) ?_
    exact m1_callThen_J72 hL X hM hS (lv_sub hl [1, 2, 3, 4, 5, 0] rfl) r1 r2 r3 r4 sr0 (hM 10 a1) hw
theorem m1_callThen_L17 {Q : Po} {PX : Px} (X : Cx E 0 h0 P0 kc0 ks0 S0 A p l R s m args meth c cX1_callThen 7 none 30) : ∀ n, ∀ {a1 : Int} {a2 : Int} {a3 : Int} {a4 : Int} {V : Mv} {Z : Le} {P : Le} {H : Heap} {locs : List Loc} {cells slots : Nat} {ls : Array Slot}, inM V → HS E 0 h0 P0 kc0 ks0 (sbs [15, 16, 17, 18, 20, 22, 23, 24, 25, 26, 27, 29, 30, 31, 32, 38, 51, 52]) A s.heap P (toC V) Z H locs cells slots → lv_has ls 7 [(0, .ref h0), (1, .int (I3 a1)), (2, .int (I3 a2)), (3, .int (I3 a3)), (4, .int (I3 a4))] → inR a1 → inR a2 → inR a3 → inR a4 → w1_callThen_L17 Q n a1 a2 a3 a4 V Z → W p l e R s m args below meth c H locs cells slots (MQx below (QT E 0 h0 false P0 kc0 ks0 (sbs [15, 16, 17, 18, 20, 22, 23, 24, 25, 26, 27, 29, 30, 31, 32, 38, 51, 52]) A (QL Q) (PL PX) s) s) (F0 m 17 ls []) := by
  have hx := X.2.1
  have hb := X.2.2.1
  intro n
  induction n with
  | zero => intros; rename_i hw; exact hw.elim
  | succ n ih =>
    intro a1 a2 a3 a4 V Z P H locs cells slots ls hM hS hl r1 r2 r3 r4 hw
    unfold w1_callThen_L17 at hw
    refine lv_iload hx hb dX1_callThen_17 (lv_at hl 4 rfl) ?_
    refine z_iconst hx hb dX1_callThen_19 ?_
    refine z_ige (tgt := 155) hx hb r4 (⟨by decide, by decide⟩) hw dX1_callThen_20 (by decide) (fun hc hw => ?_) (fun hc hw => ?_)
    · exact m1_callThen_J155 X hM hS (lv_sub hl [] rfl)  hw
    · refine lv_aload_n hx hb dX1_callThen_23 rfl (lv_at hl 0 rfl) ?_
      refine z_gi X hS f1_54 dX1_callThen_24 ?_
      refine z_zne (tgt := 155) hx hb (hM 54 0) hw dX1_callThen_27 (by decide) (fun hc hw => ?_) (fun hc hw => ?_)
      · exact m1_callThen_J155 X hM hS (lv_sub hl [] rfl)  hw
      · refine lv_iload hx hb dX1_callThen_30 (lv_at hl 4 rfl) ?_
        refine z_zne (tgt := 44) hx hb r4 hw dX1_callThen_32 (by decide) (fun hc hw => ?_) (fun hc hw => ?_)
        · refine lv_aload_n hx hb dX1_callThen_44 rfl (lv_at hl 0 rfl) ?_
          refine r_ga X hS f1_11 dX1_callThen_45 ?_
          refine lv_iload_n hx hb dX1_callThen_48 rfl (lv_at hl 1 rfl) ?_
          refine z_il X hS a1_11 hw dX1_callThen_49 (fun hw => ?_)
          exact m1_callThen_J50 ih X hM hS (lv_sub hl [0, 1, 2, 3, 4] rfl) r1 r2 r3 r4 (hM 11 a1) hw
        · refine lv_aload_n hx hb dX1_callThen_35 rfl (lv_at hl 0 rfl) ?_
          refine r_ga X hS f1_9 dX1_callThen_36 ?_
          refine lv_iload_n hx hb dX1_callThen_39 rfl (lv_at hl 1 rfl) ?_
          refine z_il X hS a1_9 hw dX1_callThen_40 (fun hw => ?_)
          refine lv_goto (tgt := 50) hx hb dX1_callThen_41 (by decide) ?_
          exact m1_callThen_J50 ih X hM hS (lv_sub hl [0, 1, 2, 3, 4] rfl) r1 r2 r3 r4 (hM 9 a1) hw
theorem m1_callThen {a1 : Int} {a2 : Int} {a3 : Int} {V : Mv} {Z : Le} {Q : Po} {PX : Px} (r1 : inR a1) (r2 : inR a2) (r3 : inR a3) (hM : inM V) (hw : w1_callThen a1 a2 a3 V Z Q) : MT l S0 E 0 h0 yX1_callThen cX1_callThen 7 none 30 false (sbs [15, 16, 17, 18, 20, 22, 23, 24, 25, 26, 27, 29, 30, 31, 32, 38, 51, 52]) [.int (I3 a1), .int (I3 a2), .int (I3 a3)] (toC V) Z (QL Q) (PL PX) := by
  refine mt_of Gk0 (by decide) rfl (Nat.le_of_ble_eq_true rfl) ?_
  intro p e s m below meth c A P ls X hS hl
  have hl : lv_has ls 7 [(0, .ref h0), (1, .int (I3 a1)), (2, .int (I3 a2)), (3, .int (I3 a3))] := hl
  have hx := X.2.1
  have hb := X.2.2.1
  unfold w1_callThen at hw
  refine lv_aload_n hx hb dX1_callThen_0 rfl (lv_at hl 0 rfl) ?_
  refine z_iconst hx hb dX1_callThen_1 ?_
  refine z_pz X hS hM f1_54 p1_54 (⟨by decide, by decide⟩) hw dX1_callThen_2 (fun V28 hM29 hw H locs hS => ?_)
  refine lv_aload_n hx hb dX1_callThen_5 rfl (lv_at hl 0 rfl) ?_
  refine lv_iload_n hx hb dX1_callThen_6 rfl (lv_at hl 1 rfl) ?_
  refine z_vo X hS hw gs1_160 (by omega) hl.1 (Nat.le_of_ble_eq_true rfl) dX1_callThen_7 (fun h30 hw => ?_)
  refine z_iconst hx hb dX1_callThen_10 ?_
  refine z_callV X hS (m1_log_2 h30 (⟨by decide, by decide⟩) hM29 hw) gv1_244 hy1_log_2 rfl (by omega) (by decide) (sbs_sub rfl) hl.1 (Nat.le_of_ble_eq_true rfl) dX1_callThen_11 rfl (fun x31 V33 Z34 h32 hM35 hw P36 H locs c1 s1 hP hS => ?_)
  refine z_iconst hx hb dX1_callThen_14 ?_
  refine lv_istore (lv' := [(4, .int (I3 0)), (0, .ref h0), (1, .int (I3 a1)), (2, .int (I3 a2)), (3, .int (I3 a3))]) hx hb dX1_callThen_15 hl (by decide) rfl (fun ls hl => ?_)
  obtain ⟨n, hw⟩ := hw
  exact m1_callThen_L17 X n hM35 hS (lv_sub hl [1, 2, 3, 4, 0] rfl) r1 r2 r3 (⟨by decide, by decide⟩) hw
theorem m1_goOn_J66 {a1 : Int} {V : Mv} {Z : Le} {Q : Po} {PX : Px} (X : Cx E 0 h0 P0 kc0 ks0 S0 A p l R s m args meth c cX1_goOn 5 none 31) (hM : inM V) (hS : HS E 0 h0 P0 kc0 ks0 (sbs [15, 16, 17, 18, 20, 22, 23, 24, 25, 26, 27, 29, 30, 31, 32, 38, 51, 52]) A s.heap P (toC V) Z H locs cells slots) (hl : lv_has ls 5 [(0, .ref h0), (1, .int (I3 a1))]) (r1 : inR a1) (hw : w1_goOn_J66 a1 V Z Q) : W p l e R s m args below meth c H locs cells slots (MQx below (QT E 0 h0 false P0 kc0 ks0 (sbs [15, 16, 17, 18, 20, 22, 23, 24, 25, 26, 27, 29, 30, 31, 32, 38, 51, 52]) A (QL Q) (PL PX) s) s) (F0 m 66 ls []) := by
  have hx := X.2.1
  have hb := X.2.2.1
  unfold w1_goOn_J66 at hw
  refine lv_aload_n hx hb dX1_goOn_66 rfl (lv_at hl 0 rfl) ?_
  refine r_ga X hS f1_42 dX1_goOn_67 ?_
  refine lv_iload_n hx hb dX1_goOn_70 rfl (lv_at hl 1 rfl) ?_
  refine z_il X hS a1_42 hw dX1_goOn_71 (fun hw => ?_)
  refine lv_aload_n hx hb dX1_goOn_72 rfl (lv_at hl 0 rfl) ?_
  refine r_ga X hS f1_43 dX1_goOn_73 ?_
  refine lv_iload_n hx hb dX1_goOn_76 rfl (lv_at hl 1 rfl) ?_
  refine z_il X hS a1_43 hw dX1_goOn_77 (fun hw => ?_)
  refine z_ine (tgt := 99) hx hb (hM 42 a1) (hM 43 a1) hw dX1_goOn_78 (by decide) (fun hc hw => ?_) (fun hc hw => ?_)
  · refine lv_aload_n hx hb dX1_goOn_99 rfl (lv_at hl 0 rfl) ?_
    refine lv_aload_n hx hb dX1_goOn_100 rfl (lv_at hl 0 rfl) ?_
    refine r_ga X hS f1_38 dX1_goOn_101 ?_
    refine lv_aload_n hx hb dX1_goOn_104 rfl (lv_at hl 0 rfl) ?_
    refine r_ga X hS f1_42 dX1_goOn_105 ?_
    refine lv_iload_n hx hb dX1_goOn_108 rfl (lv_at hl 1 rfl) ?_
    refine z_il X hS a1_42 hw dX1_goOn_109 (fun hw => ?_)
    refine z_il X hS a1_38 hw dX1_goOn_110 (fun hw => ?_)
    refine z_callI X hS (m1_wrapped (by decide) (m1_call 3) (hM 38 (V 42 a1)) hM hw) gv1_231 hy1_wrapped rfl (by omega) (by decide) (sbs_sub rfl) hl.1 (Nat.le_of_ble_eq_true rfl) dX1_goOn_111 rfl (fun x1 V3 Z4 h2 hM5 hw P6 H locs c1 s1 hP hS => ?_)
    refine lv_istore (lv' := [(4, .int (I3 x1)), (0, .ref h0), (1, .int (I3 a1))]) hx hb dX1_goOn_114 hl (by decide) rfl (fun ls hl => ?_)
    refine lv_aload_n hx hb dX1_goOn_116 rfl (lv_at hl 1 rfl) ?_
    refine r_ga X hS f1_42 dX1_goOn_117 ?_
    refine lv_iload_n hx hb dX1_goOn_120 rfl (lv_at hl 2 rfl) ?_
    refine lv_dup2_11 hx hb dX1_goOn_121 rfl rfl ?_
    refine z_il X hS a1_42 hw dX1_goOn_122 (fun hw => ?_)
    refine z_iconst hx hb dX1_goOn_123 ?_
    refine z_add hx hb hw dX1_goOn_124 (fun h7 hw => ?_)
    refine z_is X hS hM5 a1_42 h7 hw dX1_goOn_125 (fun V8 hM9 hw H locs hS => ?_)
    refine lv_aload_n hx hb dX1_goOn_126 rfl (lv_at hl 1 rfl) ?_
    refine lv_iload hx hb dX1_goOn_127 (lv_at hl 0 rfl) ?_
    refine lv_aload_n hx hb dX1_goOn_129 rfl (lv_at hl 1 rfl) ?_
    refine z_iconst hx hb dX1_goOn_130 ?_
    refine z_iconst hx hb dX1_goOn_131 ?_
    refine z_iconst hx hb dX1_goOn_132 ?_
    refine z_iconst hx hb dX1_goOn_133 ?_
    refine lv_iload_n hx hb dX1_goOn_134 rfl (lv_at hl 2 rfl) ?_
    refine z_callI X hS (m1_wait (⟨by decide, by decide⟩) (⟨by decide, by decide⟩) (⟨by decide, by decide⟩) (⟨by decide, by decide⟩) r1 hM9 hw) gv1_210 hy1_wait rfl (by omega) (by decide) (sbs_sub rfl) hl.1 (Nat.le_of_ble_eq_true rfl) dX1_goOn_135 rfl (fun x10 V12 Z13 h11 hM14 hw P15 H locs c1 s1 hP hS => ?_)
    refine z_callV X hS (m1_perform h2 h11 hM14 hw) gv1_214 hy1_perform rfl (by omega) (by decide) (sbs_sub rfl) hl.1 (Nat.le_of_ble_eq_true rfl) dX1_goOn_138 rfl (fun x16 V18 Z19 h17 hM20 hw P21 H locs c1 s1 hP hS => ?_)
    exact z_rv X hS hM20 hw dX1_goOn_141
  · refine lv_aload_n hx hb dX1_goOn_81 rfl (lv_at hl 0 rfl) ?_
    refine lv_aload_n hx hb dX1_goOn_82 rfl (lv_at hl 0 rfl) ?_
    refine r_ga X hS f1_46 dX1_goOn_83 ?_
    refine lv_iload_n hx hb dX1_goOn_86 rfl (lv_at hl 1 rfl) ?_
    refine z_il X hS a1_46 hw dX1_goOn_87 (fun hw => ?_)
    refine lv_aload_n hx hb dX1_goOn_88 rfl (lv_at hl 0 rfl) ?_
    refine r_ga X hS f1_45 dX1_goOn_89 ?_
    refine lv_iload_n hx hb dX1_goOn_92 rfl (lv_at hl 1 rfl) ?_
    refine z_il X hS a1_45 hw dX1_goOn_93 (fun hw => ?_)
    refine z_callI X hS (m1_call 3 (hM 46 a1) (hM 45 a1) hM hw) gv1_218 hy1_call rfl (by omega) (by decide) (sbs_sub rfl) hl.1 (Nat.le_of_ble_eq_true rfl) dX1_goOn_94 rfl (fun x22 V24 Z25 h23 hM26 hw P27 H locs c1 s1 hP hS => ?_)
    refine lv_pop hx hb dX1_goOn_97 rfl ?_
    exact z_rv X hS hM26 hw dX1_goOn_98
theorem m1_goOn {a1 : Int} {a2 : Int} {a3 : Int} {V : Mv} {Z : Le} {Q : Po} {PX : Px} (r1 : inR a1) (r2 : inR a2) (r3 : inR a3) (hM : inM V) (hw : w1_goOn a1 a2 a3 V Z Q) : MT l S0 E 0 h0 yX1_goOn cX1_goOn 5 none 31 false (sbs [15, 16, 17, 18, 20, 22, 23, 24, 25, 26, 27, 29, 30, 31, 32, 38, 51, 52]) [.int (I3 a1), .int (I3 a2), .int (I3 a3)] (toC V) Z (QL Q) (PL PX) := by
  refine mt_of Gk0 (by decide) rfl (Nat.le_of_ble_eq_true rfl) ?_
  intro p e s m below meth c A P ls X hS hl
  have hl : lv_has ls 5 [(0, .ref h0), (1, .int (I3 a1)), (2, .int (I3 a2)), (3, .int (I3 a3))] := hl
  have hx := X.2.1
  have hb := X.2.2.1
  unfold w1_goOn at hw
  refine lv_iload_n hx hb dX1_goOn_0 rfl (lv_at hl 2 rfl) ?_
  refine z_iconst hx hb dX1_goOn_1 ?_
  refine z_ine (tgt := 18) hx hb r2 (⟨by decide, by decide⟩) hw dX1_goOn_2 (by decide) (fun hc hw => ?_) (fun hc hw => ?_)
  · refine lv_iload_n hx hb dX1_goOn_18 rfl (lv_at hl 2 rfl) ?_
    refine z_iconst hx hb dX1_goOn_19 ?_
    refine z_ine (tgt := 66) hx hb r2 (⟨by decide, by decide⟩) hw dX1_goOn_20 (by decide) (fun hc hw => ?_) (fun hc hw => ?_)
    · exact m1_goOn_J66 X hM hS (lv_sub hl [0, 1] rfl) r1 hw
    · refine lv_aload_n hx hb dX1_goOn_23 rfl (lv_at hl 0 rfl) ?_
      refine r_ga X hS f1_44 dX1_goOn_24 ?_
      refine lv_iload_n hx hb dX1_goOn_27 rfl (lv_at hl 1 rfl) ?_
      refine z_il X hS a1_44 hw dX1_goOn_28 (fun hw => ?_)
      refine z_zlt (tgt := 66) hx hb (hM 44 a1) hw dX1_goOn_29 (by decide) (fun hc hw => ?_) (fun hc hw => ?_)
      · exact m1_goOn_J66 X hM hS (lv_sub hl [0, 1] rfl) r1 hw
      · refine lv_aload_n hx hb dX1_goOn_32 rfl (lv_at hl 0 rfl) ?_
        refine lv_aload_n hx hb dX1_goOn_33 rfl (lv_at hl 0 rfl) ?_
        refine r_ga X hS f1_44 dX1_goOn_34 ?_
        refine lv_iload_n hx hb dX1_goOn_37 rfl (lv_at hl 1 rfl) ?_
        refine z_il X hS a1_44 hw dX1_goOn_38 (fun hw => ?_)
        refine lv_iload_n hx hb dX1_goOn_39 rfl (lv_at hl 3 rfl) ?_
        refine z_callI X hS (m1_call 3 (hM 44 a1) r3 hM hw) gv1_218 hy1_call rfl (by omega) (by decide) (sbs_sub rfl) hl.1 (Nat.le_of_ble_eq_true rfl) dX1_goOn_40 rfl (fun x28 V30 Z31 h29 hM32 hw P33 H locs c1 s1 hP hS => ?_)
        refine lv_istore (lv' := [(4, .int (I3 x28)), (0, .ref h0), (1, .int (I3 a1)), (2, .int (I3 a2)), (3, .int (I3 a3))]) hx hb dX1_goOn_43 hl (by decide) rfl (fun ls hl => ?_)
        refine lv_aload_n hx hb dX1_goOn_45 rfl (lv_at hl 1 rfl) ?_
        refine z_gi X hS f1_54 dX1_goOn_46 ?_
        refine z_zeq (tgt := 66) hx hb (hM32 54 0) hw dX1_goOn_49 (by decide) (fun hc hw => ?_) (fun hc hw => ?_)
        · exact m1_goOn_J66 X hM32 hS (lv_sub hl [1, 2] rfl) r1 hw
        · refine lv_aload_n hx hb dX1_goOn_52 rfl (lv_at hl 1 rfl) ?_
          refine lv_aload_n hx hb dX1_goOn_53 rfl (lv_at hl 1 rfl) ?_
          refine r_ga X hS f1_47 dX1_goOn_54 ?_
          refine lv_iload_n hx hb dX1_goOn_57 rfl (lv_at hl 2 rfl) ?_
          refine z_il X hS a1_47 hw dX1_goOn_58 (fun hw => ?_)
          refine lv_iload hx hb dX1_goOn_59 (lv_at hl 0 rfl) ?_
          refine z_callI X hS (m1_call 3 (hM32 47 a1) h29 hM32 hw) gv1_218 hy1_call rfl (by omega) (by decide) (sbs_sub rfl) hl.1 (Nat.le_of_ble_eq_true rfl) dX1_goOn_61 rfl (fun x34 V36 Z37 h35 hM38 hw P39 H locs c1 s1 hP hS => ?_)
          refine lv_pop hx hb dX1_goOn_64 rfl ?_
          exact z_rv X hS hM38 hw dX1_goOn_65
  · refine lv_aload_n hx hb dX1_goOn_5 rfl (lv_at hl 0 rfl) ?_
    refine lv_aload_n hx hb dX1_goOn_6 rfl (lv_at hl 0 rfl) ?_
    refine r_ga X hS f1_47 dX1_goOn_7 ?_
    refine lv_iload_n hx hb dX1_goOn_10 rfl (lv_at hl 1 rfl) ?_
    refine z_il X hS a1_47 hw dX1_goOn_11 (fun hw => ?_)
    refine lv_iload_n hx hb dX1_goOn_12 rfl (lv_at hl 3 rfl) ?_
    refine z_callI X hS (m1_call 3 (hM 47 a1) r3 hM hw) gv1_218 hy1_call rfl (by omega) (by decide) (sbs_sub rfl) hl.1 (Nat.le_of_ble_eq_true rfl) dX1_goOn_13 rfl (fun x40 V42 Z43 h41 hM44 hw P45 H locs c1 s1 hP hS => ?_)
    refine lv_pop hx hb dX1_goOn_16 rfl ?_
    exact z_rv X hS hM44 hw dX1_goOn_17
end WALK
