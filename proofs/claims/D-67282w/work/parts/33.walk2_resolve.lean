set_option maxRecDepth 100000
theorem dX2_resolve_0 : decode cX2_resolve 0 = .ok (.aload_n 0, 1) := by decide +kernel
theorem dX2_resolve_1 : decode cX2_resolve 1 = .ok (.getfield 47, 3) := by decide +kernel
theorem dX2_resolve_4 : decode cX2_resolve 4 = .ok (.iload_n 1, 1) := by decide +kernel
theorem dX2_resolve_5 : decode cX2_resolve 5 = .ok (.baload, 1) := by decide +kernel
theorem dX2_resolve_6 : decode cX2_resolve 6 = .ok (.ifCond .eq 4, 3) := by decide +kernel
theorem dX2_resolve_9 : decode cX2_resolve 9 = .ok (.return_, 1) := by decide +kernel
theorem dX2_resolve_10 : decode cX2_resolve 10 = .ok (.aload_n 0, 1) := by decide +kernel
theorem dX2_resolve_11 : decode cX2_resolve 11 = .ok (.getfield 47, 3) := by decide +kernel
theorem dX2_resolve_14 : decode cX2_resolve 14 = .ok (.iload_n 1, 1) := by decide +kernel
theorem dX2_resolve_15 : decode cX2_resolve 15 = .ok (.iconst 1, 1) := by decide +kernel
theorem dX2_resolve_16 : decode cX2_resolve 16 = .ok (.bastore, 1) := by decide +kernel
theorem dX2_resolve_17 : decode cX2_resolve 17 = .ok (.aload_n 0, 1) := by decide +kernel
theorem dX2_resolve_18 : decode cX2_resolve 18 = .ok (.getfield 44, 3) := by decide +kernel
theorem dX2_resolve_21 : decode cX2_resolve 21 = .ok (.iload_n 1, 1) := by decide +kernel
theorem dX2_resolve_22 : decode cX2_resolve 22 = .ok (.iaload, 1) := by decide +kernel
theorem dX2_resolve_23 : decode cX2_resolve 23 = .ok (.istore_n 3, 1) := by decide +kernel
theorem dX2_resolve_24 : decode cX2_resolve 24 = .ok (.iload_n 2, 1) := by decide +kernel
theorem dX2_resolve_25 : decode cX2_resolve 25 = .ok (.iload_n 3, 1) := by decide +kernel
theorem dX2_resolve_26 : decode cX2_resolve 26 = .ok (.invokestatic 155, 3) := by decide +kernel
theorem dX2_resolve_29 : decode cX2_resolve 29 = .ok (.if_icmp .ne 18, 3) := by decide +kernel
theorem dX2_resolve_32 : decode cX2_resolve 32 = .ok (.aload_n 0, 1) := by decide +kernel
theorem dX2_resolve_33 : decode cX2_resolve 33 = .ok (.iload_n 3, 1) := by decide +kernel
theorem dX2_resolve_34 : decode cX2_resolve 34 = .ok (.iconst 2, 1) := by decide +kernel
theorem dX2_resolve_35 : decode cX2_resolve 35 = .ok (.aload_n 0, 1) := by decide +kernel
theorem dX2_resolve_36 : decode cX2_resolve 36 = .ok (.iconst 2, 1) := by decide +kernel
theorem dX2_resolve_37 : decode cX2_resolve 37 = .ok (.invokevirtual 148, 3) := by decide +kernel
theorem dX2_resolve_40 : decode cX2_resolve 40 = .ok (.invokestatic 155, 3) := by decide +kernel
theorem dX2_resolve_43 : decode cX2_resolve 43 = .ok (.invokevirtual 158, 3) := by decide +kernel
theorem dX2_resolve_46 : decode cX2_resolve 46 = .ok (.return_, 1) := by decide +kernel
theorem dX2_resolve_47 : decode cX2_resolve 47 = .ok (.aload_n 0, 1) := by decide +kernel
theorem dX2_resolve_48 : decode cX2_resolve 48 = .ok (.iload_n 2, 1) := by decide +kernel
theorem dX2_resolve_49 : decode cX2_resolve 49 = .ok (.invokevirtual 138, 3) := by decide +kernel
theorem dX2_resolve_52 : decode cX2_resolve 52 = .ok (.ifCond .ne 11, 3) := by decide +kernel
theorem dX2_resolve_55 : decode cX2_resolve 55 = .ok (.aload_n 0, 1) := by decide +kernel
theorem dX2_resolve_56 : decode cX2_resolve 56 = .ok (.iload_n 3, 1) := by decide +kernel
theorem dX2_resolve_57 : decode cX2_resolve 57 = .ok (.iconst 1, 1) := by decide +kernel
theorem dX2_resolve_58 : decode cX2_resolve 58 = .ok (.iload_n 2, 1) := by decide +kernel
theorem dX2_resolve_59 : decode cX2_resolve 59 = .ok (.invokevirtual 158, 3) := by decide +kernel
theorem dX2_resolve_62 : decode cX2_resolve 62 = .ok (.return_, 1) := by decide +kernel
theorem dX2_resolve_63 : decode cX2_resolve 63 = .ok (.bipush (-2), 2) := by decide +kernel
theorem dX2_resolve_65 : decode cX2_resolve 65 = .ok (.iload_n 2, 1) := by decide +kernel
theorem dX2_resolve_66 : decode cX2_resolve 66 = .ok (.isub, 1) := by decide +kernel
theorem dX2_resolve_67 : decode cX2_resolve 67 = .ok (.istore 4, 2) := by decide +kernel
theorem dX2_resolve_69 : decode cX2_resolve 69 = .ok (.aload_n 0, 1) := by decide +kernel
theorem dX2_resolve_70 : decode cX2_resolve 70 = .ok (.getfield 7, 3) := by decide +kernel
theorem dX2_resolve_73 : decode cX2_resolve 73 = .ok (.iload 4, 2) := by decide +kernel
theorem dX2_resolve_75 : decode cX2_resolve 75 = .ok (.iaload, 1) := by decide +kernel
theorem dX2_resolve_76 : decode cX2_resolve 76 = .ok (.iconst 1, 1) := by decide +kernel
theorem dX2_resolve_77 : decode cX2_resolve 77 = .ok (.if_icmp .ne 30, 3) := by decide +kernel
theorem dX2_resolve_80 : decode cX2_resolve 80 = .ok (.aload_n 0, 1) := by decide +kernel
theorem dX2_resolve_81 : decode cX2_resolve 81 = .ok (.getfield 29, 3) := by decide +kernel
theorem dX2_resolve_84 : decode cX2_resolve 84 = .ok (.iload 4, 2) := by decide +kernel
theorem dX2_resolve_86 : decode cX2_resolve 86 = .ok (.iaload, 1) := by decide +kernel
theorem dX2_resolve_87 : decode cX2_resolve 87 = .ok (.iconst 1, 1) := by decide +kernel
theorem dX2_resolve_88 : decode cX2_resolve 88 = .ok (.if_icmp .ne 19, 3) := by decide +kernel
theorem dX2_resolve_91 : decode cX2_resolve 91 = .ok (.aload_n 0, 1) := by decide +kernel
theorem dX2_resolve_92 : decode cX2_resolve 92 = .ok (.iload_n 3, 1) := by decide +kernel
theorem dX2_resolve_93 : decode cX2_resolve 93 = .ok (.iconst 2, 1) := by decide +kernel
theorem dX2_resolve_94 : decode cX2_resolve 94 = .ok (.aload_n 0, 1) := by decide +kernel
theorem dX2_resolve_95 : decode cX2_resolve 95 = .ok (.getfield 35, 3) := by decide +kernel
theorem dX2_resolve_98 : decode cX2_resolve 98 = .ok (.iload 4, 2) := by decide +kernel
theorem dX2_resolve_100 : decode cX2_resolve 100 = .ok (.iaload, 1) := by decide +kernel
theorem dX2_resolve_101 : decode cX2_resolve 101 = .ok (.invokevirtual 158, 3) := by decide +kernel
theorem dX2_resolve_104 : decode cX2_resolve 104 = .ok (.goto 85, 3) := by decide +kernel
theorem dX2_resolve_107 : decode cX2_resolve 107 = .ok (.aload_n 0, 1) := by decide +kernel
theorem dX2_resolve_108 : decode cX2_resolve 108 = .ok (.getfield 7, 3) := by decide +kernel
theorem dX2_resolve_111 : decode cX2_resolve 111 = .ok (.iload 4, 2) := by decide +kernel
theorem dX2_resolve_113 : decode cX2_resolve 113 = .ok (.iaload, 1) := by decide +kernel
theorem dX2_resolve_114 : decode cX2_resolve 114 = .ok (.ifCond .eq 24, 3) := by decide +kernel
theorem dX2_resolve_117 : decode cX2_resolve 117 = .ok (.aload_n 0, 1) := by decide +kernel
theorem dX2_resolve_118 : decode cX2_resolve 118 = .ok (.getfield 7, 3) := by decide +kernel
theorem dX2_resolve_121 : decode cX2_resolve 121 = .ok (.iload 4, 2) := by decide +kernel
theorem dX2_resolve_123 : decode cX2_resolve 123 = .ok (.iaload, 1) := by decide +kernel
theorem dX2_resolve_124 : decode cX2_resolve 124 = .ok (.iconst 1, 1) := by decide +kernel
theorem dX2_resolve_125 : decode cX2_resolve 125 = .ok (.if_icmp .ne 57, 3) := by decide +kernel
theorem dX2_resolve_128 : decode cX2_resolve 128 = .ok (.aload_n 0, 1) := by decide +kernel
theorem dX2_resolve_129 : decode cX2_resolve 129 = .ok (.getfield 29, 3) := by decide +kernel
theorem dX2_resolve_132 : decode cX2_resolve 132 = .ok (.iload 4, 2) := by decide +kernel
theorem dX2_resolve_134 : decode cX2_resolve 134 = .ok (.iaload, 1) := by decide +kernel
theorem dX2_resolve_135 : decode cX2_resolve 135 = .ok (.ifCond .ne 47, 3) := by decide +kernel
theorem dX2_resolve_138 : decode cX2_resolve 138 = .ok (.aload_n 0, 1) := by decide +kernel
theorem dX2_resolve_139 : decode cX2_resolve 139 = .ok (.getfield 83, 3) := by decide +kernel
theorem dX2_resolve_142 : decode cX2_resolve 142 = .ok (.aload_n 0, 1) := by decide +kernel
theorem dX2_resolve_143 : decode cX2_resolve 143 = .ok (.getfield 162, 3) := by decide +kernel
theorem dX2_resolve_146 : decode cX2_resolve 146 = .ok (.iconst 1, 1) := by decide +kernel
theorem dX2_resolve_147 : decode cX2_resolve 147 = .ok (.bastore, 1) := by decide +kernel
theorem dX2_resolve_148 : decode cX2_resolve 148 = .ok (.aload_n 0, 1) := by decide +kernel
theorem dX2_resolve_149 : decode cX2_resolve 149 = .ok (.getfield 71, 3) := by decide +kernel
theorem dX2_resolve_152 : decode cX2_resolve 152 = .ok (.aload_n 0, 1) := by decide +kernel
theorem dX2_resolve_153 : decode cX2_resolve 153 = .ok (.getfield 162, 3) := by decide +kernel
theorem dX2_resolve_156 : decode cX2_resolve 156 = .ok (.iload 4, 2) := by decide +kernel
theorem dX2_resolve_158 : decode cX2_resolve 158 = .ok (.iastore, 1) := by decide +kernel
theorem dX2_resolve_159 : decode cX2_resolve 159 = .ok (.aload_n 0, 1) := by decide +kernel
theorem dX2_resolve_160 : decode cX2_resolve 160 = .ok (.getfield 74, 3) := by decide +kernel
theorem dX2_resolve_163 : decode cX2_resolve 163 = .ok (.aload_n 0, 1) := by decide +kernel
theorem dX2_resolve_164 : decode cX2_resolve 164 = .ok (.getfield 162, 3) := by decide +kernel
theorem dX2_resolve_167 : decode cX2_resolve 167 = .ok (.iload_n 3, 1) := by decide +kernel
theorem dX2_resolve_168 : decode cX2_resolve 168 = .ok (.iastore, 1) := by decide +kernel
theorem dX2_resolve_169 : decode cX2_resolve 169 = .ok (.aload_n 0, 1) := by decide +kernel
theorem dX2_resolve_170 : decode cX2_resolve 170 = .ok (.dup, 1) := by decide +kernel
theorem dX2_resolve_171 : decode cX2_resolve 171 = .ok (.getfield 162, 3) := by decide +kernel
theorem dX2_resolve_174 : decode cX2_resolve 174 = .ok (.iconst 1, 1) := by decide +kernel
theorem dX2_resolve_175 : decode cX2_resolve 175 = .ok (.iadd, 1) := by decide +kernel
theorem dX2_resolve_176 : decode cX2_resolve 176 = .ok (.putfield 162, 3) := by decide +kernel
theorem dX2_resolve_179 : decode cX2_resolve 179 = .ok (.goto 10, 3) := by decide +kernel
theorem dX2_resolve_182 : decode cX2_resolve 182 = .ok (.aload_n 0, 1) := by decide +kernel
theorem dX2_resolve_183 : decode cX2_resolve 183 = .ok (.iload_n 3, 1) := by decide +kernel
theorem dX2_resolve_184 : decode cX2_resolve 184 = .ok (.iconst 1, 1) := by decide +kernel
theorem dX2_resolve_185 : decode cX2_resolve 185 = .ok (.iload_n 2, 1) := by decide +kernel
theorem dX2_resolve_186 : decode cX2_resolve 186 = .ok (.invokevirtual 158, 3) := by decide +kernel
theorem dX2_resolve_189 : decode cX2_resolve 189 = .ok (.return_, 1) := by decide +kernel
theorem dX2_reject_0 : decode cX2_reject 0 = .ok (.aload_n 0, 1) := by decide +kernel
theorem dX2_reject_1 : decode cX2_reject 1 = .ok (.getfield 47, 3) := by decide +kernel
theorem dX2_reject_4 : decode cX2_reject 4 = .ok (.iload_n 1, 1) := by decide +kernel
theorem dX2_reject_5 : decode cX2_reject 5 = .ok (.baload, 1) := by decide +kernel
theorem dX2_reject_6 : decode cX2_reject 6 = .ok (.ifCond .eq 4, 3) := by decide +kernel
theorem dX2_reject_9 : decode cX2_reject 9 = .ok (.return_, 1) := by decide +kernel
theorem dX2_reject_10 : decode cX2_reject 10 = .ok (.aload_n 0, 1) := by decide +kernel
theorem dX2_reject_11 : decode cX2_reject 11 = .ok (.getfield 47, 3) := by decide +kernel
theorem dX2_reject_14 : decode cX2_reject 14 = .ok (.iload_n 1, 1) := by decide +kernel
theorem dX2_reject_15 : decode cX2_reject 15 = .ok (.iconst 1, 1) := by decide +kernel
theorem dX2_reject_16 : decode cX2_reject 16 = .ok (.bastore, 1) := by decide +kernel
theorem dX2_reject_17 : decode cX2_reject 17 = .ok (.aload_n 0, 1) := by decide +kernel
theorem dX2_reject_18 : decode cX2_reject 18 = .ok (.aload_n 0, 1) := by decide +kernel
theorem dX2_reject_19 : decode cX2_reject 19 = .ok (.getfield 44, 3) := by decide +kernel
theorem dX2_reject_22 : decode cX2_reject 22 = .ok (.iload_n 1, 1) := by decide +kernel
theorem dX2_reject_23 : decode cX2_reject 23 = .ok (.iaload, 1) := by decide +kernel
theorem dX2_reject_24 : decode cX2_reject 24 = .ok (.iconst 2, 1) := by decide +kernel
theorem dX2_reject_25 : decode cX2_reject 25 = .ok (.iload_n 2, 1) := by decide +kernel
theorem dX2_reject_26 : decode cX2_reject 26 = .ok (.invokevirtual 158, 3) := by decide +kernel
theorem dX2_reject_29 : decode cX2_reject 29 = .ok (.return_, 1) := by decide +kernel
theorem dX2_performThen_0 : decode cX2_performThen 0 = .ok (.aload_n 0, 1) := by decide +kernel
theorem dX2_performThen_1 : decode cX2_performThen 1 = .ok (.getfield 168, 3) := by decide +kernel
theorem dX2_performThen_4 : decode cX2_performThen 4 = .ok (.istore 7, 2) := by decide +kernel
theorem dX2_performThen_6 : decode cX2_performThen 6 = .ok (.aload_n 0, 1) := by decide +kernel
theorem dX2_performThen_7 : decode cX2_performThen 7 = .ok (.dup, 1) := by decide +kernel
theorem dX2_performThen_8 : decode cX2_performThen 8 = .ok (.getfield 168, 3) := by decide +kernel
theorem dX2_performThen_11 : decode cX2_performThen 11 = .ok (.iconst 1, 1) := by decide +kernel
theorem dX2_performThen_12 : decode cX2_performThen 12 = .ok (.iadd, 1) := by decide +kernel
theorem dX2_performThen_13 : decode cX2_performThen 13 = .ok (.putfield 168, 3) := by decide +kernel
theorem dX2_performThen_16 : decode cX2_performThen 16 = .ok (.aload_n 0, 1) := by decide +kernel
theorem dX2_performThen_17 : decode cX2_performThen 17 = .ok (.getfield 50, 3) := by decide +kernel
theorem dX2_performThen_20 : decode cX2_performThen 20 = .ok (.iload 7, 2) := by decide +kernel
theorem dX2_performThen_22 : decode cX2_performThen 22 = .ok (.iconst (-1), 1) := by decide +kernel
theorem dX2_performThen_23 : decode cX2_performThen 23 = .ok (.iastore, 1) := by decide +kernel
theorem dX2_performThen_24 : decode cX2_performThen 24 = .ok (.aload_n 0, 1) := by decide +kernel
theorem dX2_performThen_25 : decode cX2_performThen 25 = .ok (.getfield 53, 3) := by decide +kernel
theorem dX2_performThen_28 : decode cX2_performThen 28 = .ok (.iload 7, 2) := by decide +kernel
theorem dX2_performThen_30 : decode cX2_performThen 30 = .ok (.iload 6, 2) := by decide +kernel
theorem dX2_performThen_32 : decode cX2_performThen 32 = .ok (.iastore, 1) := by decide +kernel
theorem dX2_performThen_33 : decode cX2_performThen 33 = .ok (.aload_n 0, 1) := by decide +kernel
theorem dX2_performThen_34 : decode cX2_performThen 34 = .ok (.getfield 56, 3) := by decide +kernel
theorem dX2_performThen_37 : decode cX2_performThen 37 = .ok (.iload 7, 2) := by decide +kernel
theorem dX2_performThen_39 : decode cX2_performThen 39 = .ok (.iload_n 2, 1) := by decide +kernel
theorem dX2_performThen_40 : decode cX2_performThen 40 = .ok (.iastore, 1) := by decide +kernel
theorem dX2_performThen_41 : decode cX2_performThen 41 = .ok (.aload_n 0, 1) := by decide +kernel
theorem dX2_performThen_42 : decode cX2_performThen 42 = .ok (.getfield 59, 3) := by decide +kernel
theorem dX2_performThen_45 : decode cX2_performThen 45 = .ok (.iload 7, 2) := by decide +kernel
theorem dX2_performThen_47 : decode cX2_performThen 47 = .ok (.iload_n 3, 1) := by decide +kernel
theorem dX2_performThen_48 : decode cX2_performThen 48 = .ok (.iastore, 1) := by decide +kernel
theorem dX2_performThen_49 : decode cX2_performThen 49 = .ok (.aload_n 0, 1) := by decide +kernel
theorem dX2_performThen_50 : decode cX2_performThen 50 = .ok (.getfield 62, 3) := by decide +kernel
theorem dX2_performThen_53 : decode cX2_performThen 53 = .ok (.iload 7, 2) := by decide +kernel
theorem dX2_performThen_55 : decode cX2_performThen 55 = .ok (.iload 4, 2) := by decide +kernel
theorem dX2_performThen_57 : decode cX2_performThen 57 = .ok (.iastore, 1) := by decide +kernel
theorem dX2_performThen_58 : decode cX2_performThen 58 = .ok (.aload_n 0, 1) := by decide +kernel
theorem dX2_performThen_59 : decode cX2_performThen 59 = .ok (.getfield 65, 3) := by decide +kernel
theorem dX2_performThen_62 : decode cX2_performThen 62 = .ok (.iload 7, 2) := by decide +kernel
theorem dX2_performThen_64 : decode cX2_performThen 64 = .ok (.iload 5, 2) := by decide +kernel
theorem dX2_performThen_66 : decode cX2_performThen 66 = .ok (.iastore, 1) := by decide +kernel
theorem dX2_performThen_67 : decode cX2_performThen 67 = .ok (.aload_n 0, 1) := by decide +kernel
theorem dX2_performThen_68 : decode cX2_performThen 68 = .ok (.getfield 13, 3) := by decide +kernel
theorem dX2_performThen_71 : decode cX2_performThen 71 = .ok (.iload_n 1, 1) := by decide +kernel
theorem dX2_performThen_72 : decode cX2_performThen 72 = .ok (.iaload, 1) := by decide +kernel
theorem dX2_performThen_73 : decode cX2_performThen 73 = .ok (.ifCond .eq 24, 3) := by decide +kernel
theorem dX2_performThen_76 : decode cX2_performThen 76 = .ok (.aload_n 0, 1) := by decide +kernel
theorem dX2_performThen_77 : decode cX2_performThen 77 = .ok (.iload 7, 2) := by decide +kernel
theorem dX2_performThen_79 : decode cX2_performThen 79 = .ok (.aload_n 0, 1) := by decide +kernel
theorem dX2_performThen_80 : decode cX2_performThen 80 = .ok (.getfield 13, 3) := by decide +kernel
theorem dX2_performThen_83 : decode cX2_performThen 83 = .ok (.iload_n 1, 1) := by decide +kernel
theorem dX2_performThen_84 : decode cX2_performThen 84 = .ok (.iaload, 1) := by decide +kernel
theorem dX2_performThen_85 : decode cX2_performThen 85 = .ok (.aload_n 0, 1) := by decide +kernel
theorem dX2_performThen_86 : decode cX2_performThen 86 = .ok (.getfield 16, 3) := by decide +kernel
theorem dX2_performThen_89 : decode cX2_performThen 89 = .ok (.iload_n 1, 1) := by decide +kernel
theorem dX2_performThen_90 : decode cX2_performThen 90 = .ok (.iaload, 1) := by decide +kernel
theorem dX2_performThen_91 : decode cX2_performThen 91 = .ok (.invokevirtual 165, 3) := by decide +kernel
theorem dX2_performThen_94 : decode cX2_performThen 94 = .ok (.goto 62, 3) := by decide +kernel
theorem dX2_performThen_97 : decode cX2_performThen 97 = .ok (.aload_n 0, 1) := by decide +kernel
theorem dX2_performThen_98 : decode cX2_performThen 98 = .ok (.getfield 19, 3) := by decide +kernel
theorem dX2_performThen_101 : decode cX2_performThen 101 = .ok (.iload_n 1, 1) := by decide +kernel
theorem dX2_performThen_102 : decode cX2_performThen 102 = .ok (.iaload, 1) := by decide +kernel
theorem dX2_performThen_103 : decode cX2_performThen 103 = .ok (.ifCond .ge 14, 3) := by decide +kernel
theorem dX2_performThen_106 : decode cX2_performThen 106 = .ok (.aload_n 0, 1) := by decide +kernel
theorem dX2_performThen_107 : decode cX2_performThen 107 = .ok (.getfield 19, 3) := by decide +kernel
theorem dX2_performThen_110 : decode cX2_performThen 110 = .ok (.iload_n 1, 1) := by decide +kernel
theorem dX2_performThen_111 : decode cX2_performThen 111 = .ok (.iload 7, 2) := by decide +kernel
theorem dX2_performThen_113 : decode cX2_performThen 113 = .ok (.iastore, 1) := by decide +kernel
theorem dX2_performThen_114 : decode cX2_performThen 114 = .ok (.goto 42, 3) := by decide +kernel
theorem dX2_performThen_117 : decode cX2_performThen 117 = .ok (.aload_n 0, 1) := by decide +kernel
theorem dX2_performThen_118 : decode cX2_performThen 118 = .ok (.getfield 19, 3) := by decide +kernel
theorem dX2_performThen_121 : decode cX2_performThen 121 = .ok (.iload_n 1, 1) := by decide +kernel
theorem dX2_performThen_122 : decode cX2_performThen 122 = .ok (.iaload, 1) := by decide +kernel
theorem dX2_performThen_123 : decode cX2_performThen 123 = .ok (.istore 8, 2) := by decide +kernel
theorem dX2_performThen_125 : decode cX2_performThen 125 = .ok (.aload_n 0, 1) := by decide +kernel
theorem dX2_performThen_126 : decode cX2_performThen 126 = .ok (.getfield 50, 3) := by decide +kernel
theorem dX2_performThen_129 : decode cX2_performThen 129 = .ok (.iload 8, 2) := by decide +kernel
theorem dX2_performThen_131 : decode cX2_performThen 131 = .ok (.iaload, 1) := by decide +kernel
theorem dX2_performThen_132 : decode cX2_performThen 132 = .ok (.ifCond .lt 15, 3) := by decide +kernel
theorem dX2_performThen_135 : decode cX2_performThen 135 = .ok (.aload_n 0, 1) := by decide +kernel
theorem dX2_performThen_136 : decode cX2_performThen 136 = .ok (.getfield 50, 3) := by decide +kernel
theorem dX2_performThen_139 : decode cX2_performThen 139 = .ok (.iload 8, 2) := by decide +kernel
theorem dX2_performThen_141 : decode cX2_performThen 141 = .ok (.iaload, 1) := by decide +kernel
theorem dX2_performThen_142 : decode cX2_performThen 142 = .ok (.istore 8, 2) := by decide +kernel
theorem dX2_performThen_144 : decode cX2_performThen 144 = .ok (.goto (-19), 3) := by decide +kernel
theorem dX2_performThen_147 : decode cX2_performThen 147 = .ok (.aload_n 0, 1) := by decide +kernel
theorem dX2_performThen_148 : decode cX2_performThen 148 = .ok (.getfield 50, 3) := by decide +kernel
theorem dX2_performThen_151 : decode cX2_performThen 151 = .ok (.iload 8, 2) := by decide +kernel
theorem dX2_performThen_153 : decode cX2_performThen 153 = .ok (.iload 7, 2) := by decide +kernel
theorem dX2_performThen_155 : decode cX2_performThen 155 = .ok (.iastore, 1) := by decide +kernel
theorem dX2_performThen_156 : decode cX2_performThen 156 = .ok (.aload_n 0, 1) := by decide +kernel
theorem dX2_performThen_157 : decode cX2_performThen 157 = .ok (.getfield 25, 3) := by decide +kernel
theorem dX2_performThen_160 : decode cX2_performThen 160 = .ok (.iload_n 1, 1) := by decide +kernel
theorem dX2_performThen_161 : decode cX2_performThen 161 = .ok (.iconst 1, 1) := by decide +kernel
theorem dX2_performThen_162 : decode cX2_performThen 162 = .ok (.bastore, 1) := by decide +kernel
theorem dX2_performThen_163 : decode cX2_performThen 163 = .ok (.return_, 1) := by decide +kernel
theorem dX2_then_2_0 : decode cX2_then_2 0 = .ok (.aload_n 0, 1) := by decide +kernel
theorem dX2_then_2_1 : decode cX2_then_2 1 = .ok (.invokevirtual 171, 3) := by decide +kernel
theorem dX2_then_2_4 : decode cX2_then_2 4 = .ok (.istore 6, 2) := by decide +kernel
theorem dX2_then_2_6 : decode cX2_then_2 6 = .ok (.aload_n 0, 1) := by decide +kernel
theorem dX2_then_2_7 : decode cX2_then_2 7 = .ok (.iload_n 1, 1) := by decide +kernel
theorem dX2_then_2_8 : decode cX2_then_2 8 = .ok (.iload_n 2, 1) := by decide +kernel
theorem dX2_then_2_9 : decode cX2_then_2 9 = .ok (.iload_n 3, 1) := by decide +kernel
theorem dX2_then_2_10 : decode cX2_then_2 10 = .ok (.iload 4, 2) := by decide +kernel
theorem dX2_then_2_12 : decode cX2_then_2 12 = .ok (.iload 5, 2) := by decide +kernel
theorem dX2_then_2_14 : decode cX2_then_2 14 = .ok (.iload 6, 2) := by decide +kernel
theorem dX2_then_2_16 : decode cX2_then_2 16 = .ok (.invokevirtual 175, 3) := by decide +kernel
theorem dX2_then_2_19 : decode cX2_then_2 19 = .ok (.aload_n 0, 1) := by decide +kernel
theorem dX2_then_2_20 : decode cX2_then_2 20 = .ok (.getfield 44, 3) := by decide +kernel
theorem dX2_then_2_23 : decode cX2_then_2 23 = .ok (.iload 6, 2) := by decide +kernel
theorem dX2_then_2_25 : decode cX2_then_2 25 = .ok (.iaload, 1) := by decide +kernel
theorem dX2_then_2_26 : decode cX2_then_2 26 = .ok (.ireturn, 1) := by decide +kernel
theorem dX2_promiseOf_0 : decode cX2_promiseOf 0 = .ok (.aload_n 0, 1) := by decide +kernel
theorem dX2_promiseOf_1 : decode cX2_promiseOf 1 = .ok (.iload_n 1, 1) := by decide +kernel
theorem dX2_promiseOf_2 : decode cX2_promiseOf 2 = .ok (.iconst 0, 1) := by decide +kernel
theorem dX2_promiseOf_3 : decode cX2_promiseOf 3 = .ok (.invokevirtual 179, 3) := by decide +kernel
theorem dX2_promiseOf_6 : decode cX2_promiseOf 6 = .ok (.ifCond .eq 8, 3) := by decide +kernel
theorem dX2_promiseOf_9 : decode cX2_promiseOf 9 = .ok (.bipush (-2), 2) := by decide +kernel
theorem dX2_promiseOf_11 : decode cX2_promiseOf 11 = .ok (.iload_n 1, 1) := by decide +kernel
theorem dX2_promiseOf_12 : decode cX2_promiseOf 12 = .ok (.isub, 1) := by decide +kernel
theorem dX2_promiseOf_13 : decode cX2_promiseOf 13 = .ok (.ireturn, 1) := by decide +kernel
theorem dX2_promiseOf_14 : decode cX2_promiseOf 14 = .ok (.aload_n 0, 1) := by decide +kernel
theorem dX2_promiseOf_15 : decode cX2_promiseOf 15 = .ok (.invokevirtual 171, 3) := by decide +kernel
theorem dX2_promiseOf_18 : decode cX2_promiseOf 18 = .ok (.istore_n 2, 1) := by decide +kernel
theorem dX2_promiseOf_19 : decode cX2_promiseOf 19 = .ok (.aload_n 0, 1) := by decide +kernel
theorem dX2_promiseOf_20 : decode cX2_promiseOf 20 = .ok (.iload_n 2, 1) := by decide +kernel
theorem dX2_promiseOf_21 : decode cX2_promiseOf 21 = .ok (.iload_n 1, 1) := by decide +kernel
theorem dX2_promiseOf_22 : decode cX2_promiseOf 22 = .ok (.invokevirtual 183, 3) := by decide +kernel
theorem dX2_promiseOf_25 : decode cX2_promiseOf 25 = .ok (.aload_n 0, 1) := by decide +kernel
theorem dX2_promiseOf_26 : decode cX2_promiseOf 26 = .ok (.getfield 44, 3) := by decide +kernel
theorem dX2_promiseOf_29 : decode cX2_promiseOf 29 = .ok (.iload_n 2, 1) := by decide +kernel
theorem dX2_promiseOf_30 : decode cX2_promiseOf 30 = .ok (.iaload, 1) := by decide +kernel
theorem dX2_promiseOf_31 : decode cX2_promiseOf 31 = .ok (.ireturn, 1) := by decide +kernel
theorem dX2_note_0 : decode cX2_note 0 = .ok (.aload_n 0, 1) := by decide +kernel
theorem dX2_note_1 : decode cX2_note 1 = .ok (.getfield 92, 3) := by decide +kernel
theorem dX2_note_4 : decode cX2_note 4 = .ok (.aload_n 0, 1) := by decide +kernel
theorem dX2_note_5 : decode cX2_note 5 = .ok (.getfield 187, 3) := by decide +kernel
theorem dX2_note_8 : decode cX2_note 8 = .ok (.iload_n 1, 1) := by decide +kernel
theorem dX2_note_9 : decode cX2_note 9 = .ok (.iastore, 1) := by decide +kernel
theorem dX2_note_10 : decode cX2_note 10 = .ok (.aload_n 0, 1) := by decide +kernel
theorem dX2_note_11 : decode cX2_note 11 = .ok (.getfield 95, 3) := by decide +kernel
theorem dX2_note_14 : decode cX2_note 14 = .ok (.aload_n 0, 1) := by decide +kernel
theorem dX2_note_15 : decode cX2_note 15 = .ok (.getfield 187, 3) := by decide +kernel
theorem dX2_note_18 : decode cX2_note 18 = .ok (.iload_n 2, 1) := by decide +kernel
theorem dX2_note_19 : decode cX2_note 19 = .ok (.iastore, 1) := by decide +kernel
theorem dX2_note_20 : decode cX2_note 20 = .ok (.aload_n 0, 1) := by decide +kernel
theorem dX2_note_21 : decode cX2_note 21 = .ok (.dup, 1) := by decide +kernel
theorem dX2_note_22 : decode cX2_note 22 = .ok (.getfield 187, 3) := by decide +kernel
theorem dX2_note_25 : decode cX2_note 25 = .ok (.iconst 1, 1) := by decide +kernel
theorem dX2_note_26 : decode cX2_note 26 = .ok (.iadd, 1) := by decide +kernel
theorem dX2_note_27 : decode cX2_note 27 = .ok (.putfield 187, 3) := by decide +kernel
theorem dX2_note_30 : decode cX2_note 30 = .ok (.return_, 1) := by decide +kernel
section WALK
variable {p : Program} {l : Launch} {e : Env} {R : Room} {s : State} {m : MethodId} {args : Array Value} {below : List Frame} {meth : Method} {c : Code} {H : Heap} {locs : List Loc} {cells slots : Nat}
variable {E : Ev} {h0 : Nat} {P0 : Le} {kc0 ks0 : Nat} {S0 : State} {A : Nat → Prop} {P : Le} {ls : Array Slot}
theorem m2_resolve_J189 {V : Mv} {Q : Int → Mv → Prop} {PX : Px} (X : Cx E 1 h0 P0 kc0 ks0 S0 A p l R s m args meth c cX2_resolve 5 none 3) (hM : inM V) (hS : HS E 1 h0 P0 kc0 ks0 (sbs []) A s.heap P (toC V) ZM H locs cells slots) (hl : lv_has ls 5 []) (hw : w2_resolve_J189  V Q) : W p l e R s m args below meth c H locs cells slots (MQx below (QT E 1 h0 false P0 kc0 ks0 (sbs []) A (QL (fun x V1 Z1 => Z1 = ZM ∧ Q x V1)) (PL PX) s) s) (F0 m 189 ls []) := by
  have hx := X.2.1
  have hb := X.2.2.1
  unfold w2_resolve_J189 at hw
  exact z_rv X hS hM ⟨rfl, hw⟩ dX2_resolve_189
theorem m2_resolve_J138 {a3 : Int} {a4 : Int} {V : Mv} {Q : Int → Mv → Prop} {PX : Px} (X : Cx E 1 h0 P0 kc0 ks0 S0 A p l R s m args meth c cX2_resolve 5 none 3) (hM : inM V) (hS : HS E 1 h0 P0 kc0 ks0 (sbs []) A s.heap P (toC V) ZM H locs cells slots) (hl : lv_has ls 5 [(0, .ref h0), (3, .int (I3 a3)), (4, .int (I3 a4))]) (r3 : inR a3) (r4 : inR a4) (hw : w2_resolve_J138 a3 a4 V Q) : W p l e R s m args below meth c H locs cells slots (MQx below (QT E 1 h0 false P0 kc0 ks0 (sbs []) A (QL (fun x V1 Z1 => Z1 = ZM ∧ Q x V1)) (PL PX) s) s) (F0 m 138 ls []) := by
  have hx := X.2.1
  have hb := X.2.2.1
  unfold w2_resolve_J138 at hw
  refine lv_aload_n hx hb dX2_resolve_138 rfl (lv_at hl 0 rfl) ?_
  refine r_ga X hS f2_28 dX2_resolve_139 ?_
  refine lv_aload_n hx hb dX2_resolve_142 rfl (lv_at hl 0 rfl) ?_
  refine z_gi X hS f2_30 dX2_resolve_143 ?_
  refine z_iconst hx hb dX2_resolve_146 ?_
  refine z_zs X hS hM a2_28 (⟨by decide, by decide⟩) hw dX2_resolve_147 (fun V1 hM2 hw H locs hS => ?_)
  refine lv_aload_n hx hb dX2_resolve_148 rfl (lv_at hl 0 rfl) ?_
  refine r_ga X hS f2_24 dX2_resolve_149 ?_
  refine lv_aload_n hx hb dX2_resolve_152 rfl (lv_at hl 0 rfl) ?_
  refine z_gi X hS f2_30 dX2_resolve_153 ?_
  refine lv_iload hx hb dX2_resolve_156 (lv_at hl 2 rfl) ?_
  refine z_is X hS hM2 a2_24 r4 hw dX2_resolve_158 (fun V3 hM4 hw H locs hS => ?_)
  refine lv_aload_n hx hb dX2_resolve_159 rfl (lv_at hl 0 rfl) ?_
  refine r_ga X hS f2_25 dX2_resolve_160 ?_
  refine lv_aload_n hx hb dX2_resolve_163 rfl (lv_at hl 0 rfl) ?_
  refine z_gi X hS f2_30 dX2_resolve_164 ?_
  refine lv_iload_n hx hb dX2_resolve_167 rfl (lv_at hl 1 rfl) ?_
  refine z_is X hS hM4 a2_25 r3 hw dX2_resolve_168 (fun V5 hM6 hw H locs hS => ?_)
  refine lv_aload_n hx hb dX2_resolve_169 rfl (lv_at hl 0 rfl) ?_
  refine lv_dup hx hb dX2_resolve_170 rfl ?_
  refine z_gi X hS f2_30 dX2_resolve_171 ?_
  refine z_iconst hx hb dX2_resolve_174 ?_
  refine z_add hx hb hw dX2_resolve_175 (fun h7 hw => ?_)
  refine z_pi X hS hM6 f2_30 p2_30 h7 hw dX2_resolve_176 (fun V8 hM9 hw H locs hS => ?_)
  refine lv_goto (tgt := 189) hx hb dX2_resolve_179 (by decide) ?_
  exact m2_resolve_J189 X hM9 hS (lv_sub hl [] rfl)  hw
theorem m2_resolve_J182 {a2 : Int} {a3 : Int} {V : Mv} {Q : Int → Mv → Prop} {PX : Px} (X : Cx E 1 h0 P0 kc0 ks0 S0 A p l R s m args meth c cX2_resolve 5 none 3) (hM : inM V) (hS : HS E 1 h0 P0 kc0 ks0 (sbs []) A s.heap P (toC V) ZM H locs cells slots) (hl : lv_has ls 5 [(0, .ref h0), (2, .int (I3 a2)), (3, .int (I3 a3))]) (r2 : inR a2) (r3 : inR a3) (hw : w2_resolve_J182 a2 a3 V Q) : W p l e R s m args below meth c H locs cells slots (MQx below (QT E 1 h0 false P0 kc0 ks0 (sbs []) A (QL (fun x V1 Z1 => Z1 = ZM ∧ Q x V1)) (PL PX) s) s) (F0 m 182 ls []) := by
  have hx := X.2.1
  have hb := X.2.2.1
  unfold w2_resolve_J182 at hw
  refine lv_aload_n hx hb dX2_resolve_182 rfl (lv_at hl 0 rfl) ?_
  refine lv_iload_n hx hb dX2_resolve_183 rfl (lv_at hl 2 rfl) ?_
  refine z_iconst hx hb dX2_resolve_184 ?_
  refine lv_iload_n hx hb dX2_resolve_185 rfl (lv_at hl 1 rfl) ?_
  refine z_callV X hS (m2_settle_2 r3 (⟨by decide, by decide⟩) r2 hM hw) gv2_158 hy2_settle_2 rfl (by omega) (by decide) (sbs_sub rfl) hl.1 (Nat.le_of_ble_eq_true rfl) dX2_resolve_186 rfl (fun x10 V12 Z15 h11 hM13 hw P14 H locs c1 s1 hP hS => ?_)
  obtain ⟨rfl, hw⟩ := hw
  exact m2_resolve_J189 X hM13 hS (lv_sub hl [] rfl)  hw
theorem m2_resolve_J107 {a2 : Int} {a3 : Int} {a4 : Int} {V : Mv} {Q : Int → Mv → Prop} {PX : Px} (X : Cx E 1 h0 P0 kc0 ks0 S0 A p l R s m args meth c cX2_resolve 5 none 3) (hM : inM V) (hS : HS E 1 h0 P0 kc0 ks0 (sbs []) A s.heap P (toC V) ZM H locs cells slots) (hl : lv_has ls 5 [(0, .ref h0), (2, .int (I3 a2)), (3, .int (I3 a3)), (4, .int (I3 a4))]) (r2 : inR a2) (r3 : inR a3) (r4 : inR a4) (hw : w2_resolve_J107 a2 a3 a4 V Q) : W p l e R s m args below meth c H locs cells slots (MQx below (QT E 1 h0 false P0 kc0 ks0 (sbs []) A (QL (fun x V1 Z1 => Z1 = ZM ∧ Q x V1)) (PL PX) s) s) (F0 m 107 ls []) := by
  have hx := X.2.1
  have hb := X.2.2.1
  unfold w2_resolve_J107 at hw
  refine lv_aload_n hx hb dX2_resolve_107 rfl (lv_at hl 0 rfl) ?_
  refine r_ga X hS f2_2 dX2_resolve_108 ?_
  refine lv_iload hx hb dX2_resolve_111 (lv_at hl 3 rfl) ?_
  refine z_il X hS a2_2 hw dX2_resolve_113 (fun hw => ?_)
  refine z_zeq (tgt := 138) hx hb (hM 2 a4) hw dX2_resolve_114 (by decide) (fun hc hw => ?_) (fun hc hw => ?_)
  · exact m2_resolve_J138 X hM hS (lv_sub hl [0, 2, 3] rfl) r3 r4 hw
  · refine lv_aload_n hx hb dX2_resolve_117 rfl (lv_at hl 0 rfl) ?_
    refine r_ga X hS f2_2 dX2_resolve_118 ?_
    refine lv_iload hx hb dX2_resolve_121 (lv_at hl 3 rfl) ?_
    refine z_il X hS a2_2 hw dX2_resolve_123 (fun hw => ?_)
    refine z_iconst hx hb dX2_resolve_124 ?_
    refine z_ine (tgt := 182) hx hb (hM 2 a4) (⟨by decide, by decide⟩) hw dX2_resolve_125 (by decide) (fun hc hw => ?_) (fun hc hw => ?_)
    · exact m2_resolve_J182 X hM hS (lv_sub hl [0, 1, 2] rfl) r2 r3 hw
    · refine lv_aload_n hx hb dX2_resolve_128 rfl (lv_at hl 0 rfl) ?_
      refine r_ga X hS f2_8 dX2_resolve_129 ?_
      refine lv_iload hx hb dX2_resolve_132 (lv_at hl 3 rfl) ?_
      refine z_il X hS a2_8 hw dX2_resolve_134 (fun hw => ?_)
      refine z_zne (tgt := 182) hx hb (hM 8 a4) hw dX2_resolve_135 (by decide) (fun hc hw => ?_) (fun hc hw => ?_)
      · exact m2_resolve_J182 X hM hS (lv_sub hl [0, 1, 2] rfl) r2 r3 hw
      · exact m2_resolve_J138 X hM hS (lv_sub hl [0, 2, 3] rfl) r3 r4 hw
theorem m2_resolve {a1 : Int} {a2 : Int} {V : Mv} {Q : Int → Mv → Prop} {PX : Px} (r1 : inR a1) (r2 : inR a2) (hM : inM V) (hw : w2_resolve a1 a2 V Q) : MT l S0 E 1 h0 yX2_resolve cX2_resolve 5 none 3 false (sbs []) [.int (I3 a1), .int (I3 a2)] (toC V) ZM (QL (fun x V1 Z1 => Z1 = ZM ∧ Q x V1)) (PL PX) := by
  refine mt_of Gk1 (by decide) rfl (Nat.le_of_ble_eq_true rfl) ?_
  intro p e s m below meth c A P ls X hS hl
  have hl : lv_has ls 5 [(0, .ref h0), (1, .int (I3 a1)), (2, .int (I3 a2))] := hl
  have hx := X.2.1
  have hb := X.2.2.1
  unfold w2_resolve at hw
  refine lv_aload_n hx hb dX2_resolve_0 rfl (lv_at hl 0 rfl) ?_
  refine r_ga X hS f2_14 dX2_resolve_1 ?_
  refine lv_iload_n hx hb dX2_resolve_4 rfl (lv_at hl 1 rfl) ?_
  refine z_zl X hS a2_14 hw dX2_resolve_5 (fun hw => ?_)
  refine z_zeq (tgt := 10) hx hb (hM 14 a1) hw dX2_resolve_6 (by decide) (fun hc hw => ?_) (fun hc hw => ?_)
  · refine lv_aload_n hx hb dX2_resolve_10 rfl (lv_at hl 0 rfl) ?_
    refine r_ga X hS f2_14 dX2_resolve_11 ?_
    refine lv_iload_n hx hb dX2_resolve_14 rfl (lv_at hl 1 rfl) ?_
    refine z_iconst hx hb dX2_resolve_15 ?_
    refine z_zs X hS hM a2_14 (⟨by decide, by decide⟩) hw dX2_resolve_16 (fun V16 hM17 hw H locs hS => ?_)
    refine lv_aload_n hx hb dX2_resolve_17 rfl (lv_at hl 0 rfl) ?_
    refine r_ga X hS f2_13 dX2_resolve_18 ?_
    refine lv_iload_n hx hb dX2_resolve_21 rfl (lv_at hl 1 rfl) ?_
    refine z_il X hS a2_13 hw dX2_resolve_22 (fun hw => ?_)
    refine lv_istore_n (lv' := [(3, .int (I3 (V16 13 a1))), (0, .ref h0), (1, .int (I3 a1)), (2, .int (I3 a2))]) hx hb dX2_resolve_23 rfl hl (by decide) rfl (fun ls hl => ?_)
    refine lv_iload_n hx hb dX2_resolve_24 rfl (lv_at hl 3 rfl) ?_
    refine lv_iload_n hx hb dX2_resolve_25 rfl (lv_at hl 0 rfl) ?_
    refine z_vo2 X hS hw gs2_155 (by omega) hl.1 (Nat.le_of_ble_eq_true rfl) dX2_resolve_26 (fun h18 hw => ?_)
    refine z_ine (tgt := 47) hx hb r2 h18 hw dX2_resolve_29 (by decide) (fun hc hw => ?_) (fun hc hw => ?_)
    · refine lv_aload_n hx hb dX2_resolve_47 rfl (lv_at hl 1 rfl) ?_
      refine lv_iload_n hx hb dX2_resolve_48 rfl (lv_at hl 3 rfl) ?_
      refine z_callI X hS (m2_isObject r2 hM17 hw) gv2_138 hy2_isObject rfl (by omega) (by decide) (sbs_sub rfl) hl.1 (Nat.le_of_ble_eq_true rfl) dX2_resolve_49 rfl (fun x19 V21 Z24 h20 hM22 hw P23 H locs c1 s1 hP hS => ?_)
      obtain ⟨rfl, hw⟩ := hw
      refine z_zne (tgt := 63) hx hb h20 hw dX2_resolve_52 (by decide) (fun hc hw => ?_) (fun hc hw => ?_)
      · refine z_bipush hx hb dX2_resolve_63 (by decide +kernel) ?_
        refine lv_iload_n hx hb dX2_resolve_65 rfl (lv_at hl 3 rfl) ?_
        refine z_sub hx hb hw dX2_resolve_66 (fun h25 hw => ?_)
        refine lv_istore (lv' := [(4, .int (I3 ((-2) - a2))), (3, .int (I3 (V16 13 a1))), (0, .ref h0), (1, .int (I3 a1)), (2, .int (I3 a2))]) hx hb dX2_resolve_67 hl (by decide) rfl (fun ls hl => ?_)
        refine lv_aload_n hx hb dX2_resolve_69 rfl (lv_at hl 2 rfl) ?_
        refine r_ga X hS f2_2 dX2_resolve_70 ?_
        refine lv_iload hx hb dX2_resolve_73 (lv_at hl 0 rfl) ?_
        refine z_il X hS a2_2 hw dX2_resolve_75 (fun hw => ?_)
        refine z_iconst hx hb dX2_resolve_76 ?_
        refine z_ine (tgt := 107) hx hb (hM22 2 ((-2) - a2)) (⟨by decide, by decide⟩) hw dX2_resolve_77 (by decide) (fun hc hw => ?_) (fun hc hw => ?_)
        · exact m2_resolve_J107 X hM22 hS (lv_sub hl [2, 4, 1, 0] rfl) r2 (hM17 13 a1) h25 hw
        · refine lv_aload_n hx hb dX2_resolve_80 rfl (lv_at hl 2 rfl) ?_
          refine r_ga X hS f2_8 dX2_resolve_81 ?_
          refine lv_iload hx hb dX2_resolve_84 (lv_at hl 0 rfl) ?_
          refine z_il X hS a2_8 hw dX2_resolve_86 (fun hw => ?_)
          refine z_iconst hx hb dX2_resolve_87 ?_
          refine z_ine (tgt := 107) hx hb (hM22 8 ((-2) - a2)) (⟨by decide, by decide⟩) hw dX2_resolve_88 (by decide) (fun hc hw => ?_) (fun hc hw => ?_)
          · exact m2_resolve_J107 X hM22 hS (lv_sub hl [2, 4, 1, 0] rfl) r2 (hM17 13 a1) h25 hw
          · refine lv_aload_n hx hb dX2_resolve_91 rfl (lv_at hl 2 rfl) ?_
            refine lv_iload_n hx hb dX2_resolve_92 rfl (lv_at hl 1 rfl) ?_
            refine z_iconst hx hb dX2_resolve_93 ?_
            refine lv_aload_n hx hb dX2_resolve_94 rfl (lv_at hl 2 rfl) ?_
            refine r_ga X hS f2_10 dX2_resolve_95 ?_
            refine lv_iload hx hb dX2_resolve_98 (lv_at hl 0 rfl) ?_
            refine z_il X hS a2_10 hw dX2_resolve_100 (fun hw => ?_)
            refine z_callV X hS (m2_settle_2 (hM17 13 a1) (⟨by decide, by decide⟩) (hM22 10 ((-2) - a2)) hM22 hw) gv2_158 hy2_settle_2 rfl (by omega) (by decide) (sbs_sub rfl) hl.1 (Nat.le_of_ble_eq_true rfl) dX2_resolve_101 rfl (fun x26 V28 Z31 h27 hM29 hw P30 H locs c1 s1 hP hS => ?_)
            obtain ⟨rfl, hw⟩ := hw
            refine lv_goto (tgt := 189) hx hb dX2_resolve_104 (by decide) ?_
            exact m2_resolve_J189 X hM29 hS (lv_sub hl [] rfl)  hw
      · refine lv_aload_n hx hb dX2_resolve_55 rfl (lv_at hl 1 rfl) ?_
        refine lv_iload_n hx hb dX2_resolve_56 rfl (lv_at hl 0 rfl) ?_
        refine z_iconst hx hb dX2_resolve_57 ?_
        refine lv_iload_n hx hb dX2_resolve_58 rfl (lv_at hl 3 rfl) ?_
        refine z_callV X hS (m2_settle_2 (hM17 13 a1) (⟨by decide, by decide⟩) r2 hM22 hw) gv2_158 hy2_settle_2 rfl (by omega) (by decide) (sbs_sub rfl) hl.1 (Nat.le_of_ble_eq_true rfl) dX2_resolve_59 rfl (fun x32 V34 Z37 h33 hM35 hw P36 H locs c1 s1 hP hS => ?_)
        obtain ⟨rfl, hw⟩ := hw
        exact z_rv X hS hM35 ⟨rfl, hw⟩ dX2_resolve_62
    · refine lv_aload_n hx hb dX2_resolve_32 rfl (lv_at hl 1 rfl) ?_
      refine lv_iload_n hx hb dX2_resolve_33 rfl (lv_at hl 0 rfl) ?_
      refine z_iconst hx hb dX2_resolve_34 ?_
      refine lv_aload_n hx hb dX2_resolve_35 rfl (lv_at hl 1 rfl) ?_
      refine z_iconst hx hb dX2_resolve_36 ?_
      refine z_callI X hS (m2_newObject (⟨by decide, by decide⟩) hM17 hw) gv2_148 hy2_newObject rfl (by omega) (by decide) (sbs_sub rfl) hl.1 (Nat.le_of_ble_eq_true rfl) dX2_resolve_37 rfl (fun x38 V40 Z43 h39 hM41 hw P42 H locs c1 s1 hP hS => ?_)
      obtain ⟨rfl, hw⟩ := hw
      refine z_vo2 X hS hw gs2_155 (by omega) hl.1 (Nat.le_of_ble_eq_true rfl) dX2_resolve_40 (fun h44 hw => ?_)
      refine z_callV X hS (m2_settle_2 (hM17 13 a1) (⟨by decide, by decide⟩) h44 hM41 hw) gv2_158 hy2_settle_2 rfl (by omega) (by decide) (sbs_sub rfl) hl.1 (Nat.le_of_ble_eq_true rfl) dX2_resolve_43 rfl (fun x45 V47 Z50 h46 hM48 hw P49 H locs c1 s1 hP hS => ?_)
      obtain ⟨rfl, hw⟩ := hw
      exact z_rv X hS hM48 ⟨rfl, hw⟩ dX2_resolve_46
  · exact z_rv X hS hM ⟨rfl, hw⟩ dX2_resolve_9
theorem m2_reject {a1 : Int} {a2 : Int} {V : Mv} {Q : Int → Mv → Prop} {PX : Px} (r1 : inR a1) (r2 : inR a2) (hM : inM V) (hw : w2_reject a1 a2 V Q) : MT l S0 E 1 h0 yX2_reject cX2_reject 3 none 3 false (sbs []) [.int (I3 a1), .int (I3 a2)] (toC V) ZM (QL (fun x V1 Z1 => Z1 = ZM ∧ Q x V1)) (PL PX) := by
  refine mt_of Gk1 (by decide) rfl (Nat.le_of_ble_eq_true rfl) ?_
  intro p e s m below meth c A P ls X hS hl
  have hl : lv_has ls 3 [(0, .ref h0), (1, .int (I3 a1)), (2, .int (I3 a2))] := hl
  have hx := X.2.1
  have hb := X.2.2.1
  unfold w2_reject at hw
  refine lv_aload_n hx hb dX2_reject_0 rfl (lv_at hl 0 rfl) ?_
  refine r_ga X hS f2_14 dX2_reject_1 ?_
  refine lv_iload_n hx hb dX2_reject_4 rfl (lv_at hl 1 rfl) ?_
  refine z_zl X hS a2_14 hw dX2_reject_5 (fun hw => ?_)
  refine z_zeq (tgt := 10) hx hb (hM 14 a1) hw dX2_reject_6 (by decide) (fun hc hw => ?_) (fun hc hw => ?_)
  · refine lv_aload_n hx hb dX2_reject_10 rfl (lv_at hl 0 rfl) ?_
    refine r_ga X hS f2_14 dX2_reject_11 ?_
    refine lv_iload_n hx hb dX2_reject_14 rfl (lv_at hl 1 rfl) ?_
    refine z_iconst hx hb dX2_reject_15 ?_
    refine z_zs X hS hM a2_14 (⟨by decide, by decide⟩) hw dX2_reject_16 (fun V1 hM2 hw H locs hS => ?_)
    refine lv_aload_n hx hb dX2_reject_17 rfl (lv_at hl 0 rfl) ?_
    refine lv_aload_n hx hb dX2_reject_18 rfl (lv_at hl 0 rfl) ?_
    refine r_ga X hS f2_13 dX2_reject_19 ?_
    refine lv_iload_n hx hb dX2_reject_22 rfl (lv_at hl 1 rfl) ?_
    refine z_il X hS a2_13 hw dX2_reject_23 (fun hw => ?_)
    refine z_iconst hx hb dX2_reject_24 ?_
    refine lv_iload_n hx hb dX2_reject_25 rfl (lv_at hl 2 rfl) ?_
    refine z_callV X hS (m2_settle_2 (hM2 13 a1) (⟨by decide, by decide⟩) r2 hM2 hw) gv2_158 hy2_settle_2 rfl (by omega) (by decide) (sbs_sub rfl) hl.1 (Nat.le_of_ble_eq_true rfl) dX2_reject_26 rfl (fun x3 V5 Z8 h4 hM6 hw P7 H locs c1 s1 hP hS => ?_)
    obtain ⟨rfl, hw⟩ := hw
    exact z_rv X hS hM6 ⟨rfl, hw⟩ dX2_reject_29
  · exact z_rv X hS hM ⟨rfl, hw⟩ dX2_reject_9
theorem m2_performThen_J156 {a1 : Int} {V : Mv} {Q : Int → Mv → Prop} {PX : Px} (X : Cx E 1 h0 P0 kc0 ks0 S0 A p l R s m args meth c cX2_performThen 9 none 2) (hM : inM V) (hS : HS E 1 h0 P0 kc0 ks0 (sbs []) A s.heap P (toC V) ZM H locs cells slots) (hl : lv_has ls 9 [(0, .ref h0), (1, .int (I3 a1))]) (r1 : inR a1) (hw : w2_performThen_J156 a1 V Q) : W p l e R s m args below meth c H locs cells slots (MQx below (QT E 1 h0 false P0 kc0 ks0 (sbs []) A (QL (fun x V1 Z1 => Z1 = ZM ∧ Q x V1)) (PL PX) s) s) (F0 m 156 ls []) := by
  have hx := X.2.1
  have hb := X.2.2.1
  unfold w2_performThen_J156 at hw
  refine lv_aload_n hx hb dX2_performThen_156 rfl (lv_at hl 0 rfl) ?_
  refine r_ga X hS f2_7 dX2_performThen_157 ?_
  refine lv_iload_n hx hb dX2_performThen_160 rfl (lv_at hl 1 rfl) ?_
  refine z_iconst hx hb dX2_performThen_161 ?_
  refine z_zs X hS hM a2_7 (⟨by decide, by decide⟩) hw dX2_performThen_162 (fun V1 hM2 hw H locs hS => ?_)
  exact z_rv X hS hM2 ⟨rfl, hw⟩ dX2_performThen_163
theorem m2_performThen_L125 {Q : Int → Mv → Prop} {PX : Px} (X : Cx E 1 h0 P0 kc0 ks0 S0 A p l R s m args meth c cX2_performThen 9 none 2) : ∀ n, ∀ {a1 : Int} {a7 : Int} {a8 : Int} {V : Mv} {P : Le} {H : Heap} {locs : List Loc} {cells slots : Nat} {ls : Array Slot}, inM V → HS E 1 h0 P0 kc0 ks0 (sbs []) A s.heap P (toC V) ZM H locs cells slots → lv_has ls 9 [(0, .ref h0), (1, .int (I3 a1)), (7, .int (I3 a7)), (8, .int (I3 a8))] → inR a1 → inR a7 → inR a8 → w2_performThen_L125 Q n a1 a7 a8 V → W p l e R s m args below meth c H locs cells slots (MQx below (QT E 1 h0 false P0 kc0 ks0 (sbs []) A (QL (fun x V1 Z1 => Z1 = ZM ∧ Q x V1)) (PL PX) s) s) (F0 m 125 ls []) := by
  have hx := X.2.1
  have hb := X.2.2.1
  intro n
  induction n with
  | zero => intros; rename_i hw; exact hw.elim
  | succ n ih =>
    intro a1 a7 a8 V P H locs cells slots ls hM hS hl r1 r7 r8 hw
    unfold w2_performThen_L125 at hw
    refine lv_aload_n hx hb dX2_performThen_125 rfl (lv_at hl 0 rfl) ?_
    refine r_ga X hS f2_16 dX2_performThen_126 ?_
    refine lv_iload hx hb dX2_performThen_129 (lv_at hl 3 rfl) ?_
    refine z_il X hS a2_16 hw dX2_performThen_131 (fun hw => ?_)
    refine z_zlt (tgt := 147) hx hb (hM 16 a8) hw dX2_performThen_132 (by decide) (fun hc hw => ?_) (fun hc hw => ?_)
    · refine lv_aload_n hx hb dX2_performThen_147 rfl (lv_at hl 0 rfl) ?_
      refine r_ga X hS f2_16 dX2_performThen_148 ?_
      refine lv_iload hx hb dX2_performThen_151 (lv_at hl 3 rfl) ?_
      refine lv_iload hx hb dX2_performThen_153 (lv_at hl 2 rfl) ?_
      refine z_is X hS hM a2_16 r7 hw dX2_performThen_155 (fun V3 hM4 hw H locs hS => ?_)
      exact m2_performThen_J156 X hM4 hS (lv_sub hl [0, 1] rfl) r1 hw
    · refine lv_aload_n hx hb dX2_performThen_135 rfl (lv_at hl 0 rfl) ?_
      refine r_ga X hS f2_16 dX2_performThen_136 ?_
      refine lv_iload hx hb dX2_performThen_139 (lv_at hl 3 rfl) ?_
      refine z_il X hS a2_16 hw dX2_performThen_141 (fun hw => ?_)
      refine lv_istore (lv' := [(8, .int (I3 (V 16 a8))), (0, .ref h0), (1, .int (I3 a1)), (7, .int (I3 a7))]) hx hb dX2_performThen_142 hl (by decide) rfl (fun ls hl => ?_)
      refine lv_goto (tgt := 125) hx hb dX2_performThen_144 (by decide) ?_
      exact ih hM hS (lv_sub hl [1, 2, 3, 0] rfl) r1 r7 (hM 16 a8) hw
theorem m2_performThen {a1 : Int} {a2 : Int} {a3 : Int} {a4 : Int} {a5 : Int} {a6 : Int} {V : Mv} {Q : Int → Mv → Prop} {PX : Px} (r1 : inR a1) (r2 : inR a2) (r3 : inR a3) (r4 : inR a4) (r5 : inR a5) (r6 : inR a6) (hM : inM V) (hw : w2_performThen a1 a2 a3 a4 a5 a6 V Q) : MT l S0 E 1 h0 yX2_performThen cX2_performThen 9 none 2 false (sbs []) [.int (I3 a1), .int (I3 a2), .int (I3 a3), .int (I3 a4), .int (I3 a5), .int (I3 a6)] (toC V) ZM (QL (fun x V1 Z1 => Z1 = ZM ∧ Q x V1)) (PL PX) := by
  refine mt_of Gk1 (by decide) rfl (Nat.le_of_ble_eq_true rfl) ?_
  intro p e s m below meth c A P ls X hS hl
  have hl : lv_has ls 9 [(0, .ref h0), (1, .int (I3 a1)), (2, .int (I3 a2)), (3, .int (I3 a3)), (4, .int (I3 a4)), (5, .int (I3 a5)), (6, .int (I3 a6))] := hl
  have hx := X.2.1
  have hb := X.2.2.1
  unfold w2_performThen at hw
  refine lv_aload_n hx hb dX2_performThen_0 rfl (lv_at hl 0 rfl) ?_
  refine z_gi X hS f2_22 dX2_performThen_1 ?_
  refine lv_istore (lv' := [(7, .int (I3 (V 22 0))), (0, .ref h0), (1, .int (I3 a1)), (2, .int (I3 a2)), (3, .int (I3 a3)), (4, .int (I3 a4)), (5, .int (I3 a5)), (6, .int (I3 a6))]) hx hb dX2_performThen_4 hl (by decide) rfl (fun ls hl => ?_)
  refine lv_aload_n hx hb dX2_performThen_6 rfl (lv_at hl 1 rfl) ?_
  refine lv_dup hx hb dX2_performThen_7 rfl ?_
  refine z_gi X hS f2_22 dX2_performThen_8 ?_
  refine z_iconst hx hb dX2_performThen_11 ?_
  refine z_add hx hb hw dX2_performThen_12 (fun h5 hw => ?_)
  refine z_pi X hS hM f2_22 p2_22 h5 hw dX2_performThen_13 (fun V6 hM7 hw H locs hS => ?_)
  refine lv_aload_n hx hb dX2_performThen_16 rfl (lv_at hl 1 rfl) ?_
  refine r_ga X hS f2_16 dX2_performThen_17 ?_
  refine lv_iload hx hb dX2_performThen_20 (lv_at hl 0 rfl) ?_
  refine z_iconst hx hb dX2_performThen_22 ?_
  refine z_is X hS hM7 a2_16 (⟨by decide, by decide⟩) hw dX2_performThen_23 (fun V8 hM9 hw H locs hS => ?_)
  refine lv_aload_n hx hb dX2_performThen_24 rfl (lv_at hl 1 rfl) ?_
  refine r_ga X hS f2_17 dX2_performThen_25 ?_
  refine lv_iload hx hb dX2_performThen_28 (lv_at hl 0 rfl) ?_
  refine lv_iload hx hb dX2_performThen_30 (lv_at hl 7 rfl) ?_
  refine z_is X hS hM9 a2_17 r6 hw dX2_performThen_32 (fun V10 hM11 hw H locs hS => ?_)
  refine lv_aload_n hx hb dX2_performThen_33 rfl (lv_at hl 1 rfl) ?_
  refine r_ga X hS f2_18 dX2_performThen_34 ?_
  refine lv_iload hx hb dX2_performThen_37 (lv_at hl 0 rfl) ?_
  refine lv_iload_n hx hb dX2_performThen_39 rfl (lv_at hl 3 rfl) ?_
  refine z_is X hS hM11 a2_18 r2 hw dX2_performThen_40 (fun V12 hM13 hw H locs hS => ?_)
  refine lv_aload_n hx hb dX2_performThen_41 rfl (lv_at hl 1 rfl) ?_
  refine r_ga X hS f2_19 dX2_performThen_42 ?_
  refine lv_iload hx hb dX2_performThen_45 (lv_at hl 0 rfl) ?_
  refine lv_iload_n hx hb dX2_performThen_47 rfl (lv_at hl 4 rfl) ?_
  refine z_is X hS hM13 a2_19 r3 hw dX2_performThen_48 (fun V14 hM15 hw H locs hS => ?_)
  refine lv_aload_n hx hb dX2_performThen_49 rfl (lv_at hl 1 rfl) ?_
  refine r_ga X hS f2_20 dX2_performThen_50 ?_
  refine lv_iload hx hb dX2_performThen_53 (lv_at hl 0 rfl) ?_
  refine lv_iload hx hb dX2_performThen_55 (lv_at hl 5 rfl) ?_
  refine z_is X hS hM15 a2_20 r4 hw dX2_performThen_57 (fun V16 hM17 hw H locs hS => ?_)
  refine lv_aload_n hx hb dX2_performThen_58 rfl (lv_at hl 1 rfl) ?_
  refine r_ga X hS f2_21 dX2_performThen_59 ?_
  refine lv_iload hx hb dX2_performThen_62 (lv_at hl 0 rfl) ?_
  refine lv_iload hx hb dX2_performThen_64 (lv_at hl 6 rfl) ?_
  refine z_is X hS hM17 a2_21 r5 hw dX2_performThen_66 (fun V18 hM19 hw H locs hS => ?_)
  refine lv_aload_n hx hb dX2_performThen_67 rfl (lv_at hl 1 rfl) ?_
  refine r_ga X hS f2_3 dX2_performThen_68 ?_
  refine lv_iload_n hx hb dX2_performThen_71 rfl (lv_at hl 2 rfl) ?_
  refine z_il X hS a2_3 hw dX2_performThen_72 (fun hw => ?_)
  refine z_zeq (tgt := 97) hx hb (hM19 3 a1) hw dX2_performThen_73 (by decide) (fun hc hw => ?_) (fun hc hw => ?_)
  · refine lv_aload_n hx hb dX2_performThen_97 rfl (lv_at hl 1 rfl) ?_
    refine r_ga X hS f2_5 dX2_performThen_98 ?_
    refine lv_iload_n hx hb dX2_performThen_101 rfl (lv_at hl 2 rfl) ?_
    refine z_il X hS a2_5 hw dX2_performThen_102 (fun hw => ?_)
    refine z_zge (tgt := 117) hx hb (hM19 5 a1) hw dX2_performThen_103 (by decide) (fun hc hw => ?_) (fun hc hw => ?_)
    · refine lv_aload_n hx hb dX2_performThen_117 rfl (lv_at hl 1 rfl) ?_
      refine r_ga X hS f2_5 dX2_performThen_118 ?_
      refine lv_iload_n hx hb dX2_performThen_121 rfl (lv_at hl 2 rfl) ?_
      refine z_il X hS a2_5 hw dX2_performThen_122 (fun hw => ?_)
      refine lv_istore (lv' := [(8, .int (I3 (V18 5 a1))), (7, .int (I3 (V 22 0))), (0, .ref h0), (1, .int (I3 a1)), (2, .int (I3 a2)), (3, .int (I3 a3)), (4, .int (I3 a4)), (5, .int (I3 a5)), (6, .int (I3 a6))]) hx hb dX2_performThen_123 hl (by decide) rfl (fun ls hl => ?_)
      obtain ⟨n, hw⟩ := hw
      exact m2_performThen_L125 X n hM19 hS (lv_sub hl [2, 3, 1, 0] rfl) r1 (hM 22 0) (hM19 5 a1) hw
    · refine lv_aload_n hx hb dX2_performThen_106 rfl (lv_at hl 1 rfl) ?_
      refine r_ga X hS f2_5 dX2_performThen_107 ?_
      refine lv_iload_n hx hb dX2_performThen_110 rfl (lv_at hl 2 rfl) ?_
      refine lv_iload hx hb dX2_performThen_111 (lv_at hl 0 rfl) ?_
      refine z_is X hS hM19 a2_5 (hM 22 0) hw dX2_performThen_113 (fun V20 hM21 hw H locs hS => ?_)
      refine lv_goto (tgt := 156) hx hb dX2_performThen_114 (by decide) ?_
      exact m2_performThen_J156 X hM21 hS (lv_sub hl [1, 2] rfl) r1 hw
  · refine lv_aload_n hx hb dX2_performThen_76 rfl (lv_at hl 1 rfl) ?_
    refine lv_iload hx hb dX2_performThen_77 (lv_at hl 0 rfl) ?_
    refine lv_aload_n hx hb dX2_performThen_79 rfl (lv_at hl 1 rfl) ?_
    refine r_ga X hS f2_3 dX2_performThen_80 ?_
    refine lv_iload_n hx hb dX2_performThen_83 rfl (lv_at hl 2 rfl) ?_
    refine z_il X hS a2_3 hw dX2_performThen_84 (fun hw => ?_)
    refine lv_aload_n hx hb dX2_performThen_85 rfl (lv_at hl 1 rfl) ?_
    refine r_ga X hS f2_4 dX2_performThen_86 ?_
    refine lv_iload_n hx hb dX2_performThen_89 rfl (lv_at hl 2 rfl) ?_
    refine z_il X hS a2_4 hw dX2_performThen_90 (fun hw => ?_)
    refine z_callV X hS (m2_react (hM 22 0) (hM19 3 a1) (hM19 4 a1) hM19 hw) gv2_165 hy2_react rfl (by omega) (by decide) (sbs_sub rfl) hl.1 (Nat.le_of_ble_eq_true rfl) dX2_performThen_91 rfl (fun x22 V24 Z27 h23 hM25 hw P26 H locs c1 s1 hP hS => ?_)
    obtain ⟨rfl, hw⟩ := hw
    refine lv_goto (tgt := 156) hx hb dX2_performThen_94 (by decide) ?_
    exact m2_performThen_J156 X hM25 hS (lv_sub hl [1, 2] rfl) r1 hw
theorem m2_then_2 {a1 : Int} {a2 : Int} {a3 : Int} {a4 : Int} {a5 : Int} {V : Mv} {Q : Int → Mv → Prop} {PX : Px} (r1 : inR a1) (r2 : inR a2) (r3 : inR a3) (r4 : inR a4) (r5 : inR a5) (hM : inM V) (hw : w2_then_2 a1 a2 a3 a4 a5 V Q) : MT l S0 E 1 h0 yX2_then_2 cX2_then_2 7 (some .int) 3 true (sbs []) [.int (I3 a1), .int (I3 a2), .int (I3 a3), .int (I3 a4), .int (I3 a5)] (toC V) ZM (QL (fun x V1 Z1 => Z1 = ZM ∧ Q x V1)) (PL PX) := by
  refine mt_of Gk1 (by decide) rfl (Nat.le_of_ble_eq_true rfl) ?_
  intro p e s m below meth c A P ls X hS hl
  have hl : lv_has ls 7 [(0, .ref h0), (1, .int (I3 a1)), (2, .int (I3 a2)), (3, .int (I3 a3)), (4, .int (I3 a4)), (5, .int (I3 a5))] := hl
  have hx := X.2.1
  have hb := X.2.2.1
  unfold w2_then_2 at hw
  refine lv_aload_n hx hb dX2_then_2_0 rfl (lv_at hl 0 rfl) ?_
  refine z_callI X hS (m2_capability  hM hw) gv2_171 hy2_capability rfl (by omega) (by decide) (sbs_sub rfl) hl.1 (Nat.le_of_ble_eq_true rfl) dX2_then_2_1 rfl (fun x1 V3 Z6 h2 hM4 hw P5 H locs c1 s1 hP hS => ?_)
  obtain ⟨rfl, hw⟩ := hw
  refine lv_istore (lv' := [(6, .int (I3 x1)), (0, .ref h0), (1, .int (I3 a1)), (2, .int (I3 a2)), (3, .int (I3 a3)), (4, .int (I3 a4)), (5, .int (I3 a5))]) hx hb dX2_then_2_4 hl (by decide) rfl (fun ls hl => ?_)
  refine lv_aload_n hx hb dX2_then_2_6 rfl (lv_at hl 1 rfl) ?_
  refine lv_iload_n hx hb dX2_then_2_7 rfl (lv_at hl 2 rfl) ?_
  refine lv_iload_n hx hb dX2_then_2_8 rfl (lv_at hl 3 rfl) ?_
  refine lv_iload_n hx hb dX2_then_2_9 rfl (lv_at hl 4 rfl) ?_
  refine lv_iload hx hb dX2_then_2_10 (lv_at hl 5 rfl) ?_
  refine lv_iload hx hb dX2_then_2_12 (lv_at hl 6 rfl) ?_
  refine lv_iload hx hb dX2_then_2_14 (lv_at hl 0 rfl) ?_
  refine z_callV X hS (m2_performThen r1 r2 r3 r4 r5 h2 hM4 hw) gv2_175 hy2_performThen rfl (by omega) (by decide) (sbs_sub rfl) hl.1 (Nat.le_of_ble_eq_true rfl) dX2_then_2_16 rfl (fun x7 V9 Z12 h8 hM10 hw P11 H locs c1 s1 hP hS => ?_)
  obtain ⟨rfl, hw⟩ := hw
  refine lv_aload_n hx hb dX2_then_2_19 rfl (lv_at hl 1 rfl) ?_
  refine r_ga X hS f2_13 dX2_then_2_20 ?_
  refine lv_iload hx hb dX2_then_2_23 (lv_at hl 0 rfl) ?_
  refine z_il X hS a2_13 hw dX2_then_2_25 (fun hw => ?_)
  exact z_ri X hS hM10 (hM10 13 x1) ⟨rfl, hw⟩ dX2_then_2_26
theorem m2_promiseOf {a1 : Int} {V : Mv} {Q : Int → Mv → Prop} {PX : Px} (r1 : inR a1) (hM : inM V) (hw : w2_promiseOf a1 V Q) : MT l S0 E 1 h0 yX2_promiseOf cX2_promiseOf 3 (some .int) 4 true (sbs []) [.int (I3 a1)] (toC V) ZM (QL (fun x V1 Z1 => Z1 = ZM ∧ Q x V1)) (PL PX) := by
  refine mt_of Gk1 (by decide) rfl (Nat.le_of_ble_eq_true rfl) ?_
  intro p e s m below meth c A P ls X hS hl
  have hl : lv_has ls 3 [(0, .ref h0), (1, .int (I3 a1))] := hl
  have hx := X.2.1
  have hb := X.2.2.1
  unfold w2_promiseOf at hw
  refine lv_aload_n hx hb dX2_promiseOf_0 rfl (lv_at hl 0 rfl) ?_
  refine lv_iload_n hx hb dX2_promiseOf_1 rfl (lv_at hl 1 rfl) ?_
  refine z_iconst hx hb dX2_promiseOf_2 ?_
  refine z_callI X hS (m2_isKind r1 (⟨by decide, by decide⟩) hM hw) gv2_179 hy2_isKind rfl (by omega) (by decide) (sbs_sub rfl) hl.1 (Nat.le_of_ble_eq_true rfl) dX2_promiseOf_3 rfl (fun x1 V3 Z6 h2 hM4 hw P5 H locs c1 s1 hP hS => ?_)
  obtain ⟨rfl, hw⟩ := hw
  refine z_zeq (tgt := 14) hx hb h2 hw dX2_promiseOf_6 (by decide) (fun hc hw => ?_) (fun hc hw => ?_)
  · refine lv_aload_n hx hb dX2_promiseOf_14 rfl (lv_at hl 0 rfl) ?_
    refine z_callI X hS (m2_capability  hM4 hw) gv2_171 hy2_capability rfl (by omega) (by decide) (sbs_sub rfl) hl.1 (Nat.le_of_ble_eq_true rfl) dX2_promiseOf_15 rfl (fun x7 V9 Z12 h8 hM10 hw P11 H locs c1 s1 hP hS => ?_)
    obtain ⟨rfl, hw⟩ := hw
    refine lv_istore_n (lv' := [(2, .int (I3 x7)), (0, .ref h0), (1, .int (I3 a1))]) hx hb dX2_promiseOf_18 rfl hl (by decide) rfl (fun ls hl => ?_)
    refine lv_aload_n hx hb dX2_promiseOf_19 rfl (lv_at hl 1 rfl) ?_
    refine lv_iload_n hx hb dX2_promiseOf_20 rfl (lv_at hl 0 rfl) ?_
    refine lv_iload_n hx hb dX2_promiseOf_21 rfl (lv_at hl 2 rfl) ?_
    refine z_callV X hS (m2_resolve h8 r1 hM10 hw) gv2_183 hy2_resolve rfl (by omega) (by decide) (sbs_sub rfl) hl.1 (Nat.le_of_ble_eq_true rfl) dX2_promiseOf_22 rfl (fun x13 V15 Z18 h14 hM16 hw P17 H locs c1 s1 hP hS => ?_)
    obtain ⟨rfl, hw⟩ := hw
    refine lv_aload_n hx hb dX2_promiseOf_25 rfl (lv_at hl 1 rfl) ?_
    refine r_ga X hS f2_13 dX2_promiseOf_26 ?_
    refine lv_iload_n hx hb dX2_promiseOf_29 rfl (lv_at hl 0 rfl) ?_
    refine z_il X hS a2_13 hw dX2_promiseOf_30 (fun hw => ?_)
    exact z_ri X hS hM16 (hM16 13 x7) ⟨rfl, hw⟩ dX2_promiseOf_31
  · refine z_bipush hx hb dX2_promiseOf_9 (by decide +kernel) ?_
    refine lv_iload_n hx hb dX2_promiseOf_11 rfl (lv_at hl 1 rfl) ?_
    refine z_sub hx hb hw dX2_promiseOf_12 (fun h19 hw => ?_)
    exact z_ri X hS hM4 h19 ⟨rfl, hw⟩ dX2_promiseOf_13
theorem m2_note {a1 : Int} {a2 : Int} {V : Mv} {Q : Int → Mv → Prop} {PX : Px} (r1 : inR a1) (r2 : inR a2) (hM : inM V) (hw : w2_note a1 a2 V Q) : MT l S0 E 1 h0 yX2_note cX2_note 3 none 1 false (sbs []) [.int (I3 a1), .int (I3 a2)] (toC V) ZM (QL (fun x V1 Z1 => Z1 = ZM ∧ Q x V1)) (PL PX) := by
  refine mt_of Gk1 (by decide) rfl (Nat.le_of_ble_eq_true rfl) ?_
  intro p e s m below meth c A P ls X hS hl
  have hl : lv_has ls 3 [(0, .ref h0), (1, .int (I3 a1)), (2, .int (I3 a2))] := hl
  have hx := X.2.1
  have hb := X.2.2.1
  unfold w2_note at hw
  refine lv_aload_n hx hb dX2_note_0 rfl (lv_at hl 0 rfl) ?_
  refine r_ga X hS f2_34 dX2_note_1 ?_
  refine lv_aload_n hx hb dX2_note_4 rfl (lv_at hl 0 rfl) ?_
  refine z_gi X hS f2_36 dX2_note_5 ?_
  refine lv_iload_n hx hb dX2_note_8 rfl (lv_at hl 1 rfl) ?_
  refine z_is X hS hM a2_34 r1 hw dX2_note_9 (fun V1 hM2 hw H locs hS => ?_)
  refine lv_aload_n hx hb dX2_note_10 rfl (lv_at hl 0 rfl) ?_
  refine r_ga X hS f2_35 dX2_note_11 ?_
  refine lv_aload_n hx hb dX2_note_14 rfl (lv_at hl 0 rfl) ?_
  refine z_gi X hS f2_36 dX2_note_15 ?_
  refine lv_iload_n hx hb dX2_note_18 rfl (lv_at hl 2 rfl) ?_
  refine z_is X hS hM2 a2_35 r2 hw dX2_note_19 (fun V3 hM4 hw H locs hS => ?_)
  refine lv_aload_n hx hb dX2_note_20 rfl (lv_at hl 0 rfl) ?_
  refine lv_dup hx hb dX2_note_21 rfl ?_
  refine z_gi X hS f2_36 dX2_note_22 ?_
  refine z_iconst hx hb dX2_note_25 ?_
  refine z_add hx hb hw dX2_note_26 (fun h5 hw => ?_)
  refine z_pi X hS hM4 f2_36 p2_36 h5 hw dX2_note_27 (fun V6 hM7 hw H locs hS => ?_)
  exact z_rv X hS hM7 ⟨rfl, hw⟩ dX2_note_30
end WALK
