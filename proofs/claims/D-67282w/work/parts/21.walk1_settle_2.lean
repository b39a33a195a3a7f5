set_option maxRecDepth 100000
theorem dX1_settle_2_0 : decode cX1_settle_2 0 = .ok (.aload_n 0, 1) := by decide +kernel
theorem dX1_settle_2_1 : decode cX1_settle_2 1 = .ok (.getfield 13, 3) := by decide +kernel
theorem dX1_settle_2_4 : decode cX1_settle_2 4 = .ok (.iload_n 1, 1) := by decide +kernel
theorem dX1_settle_2_5 : decode cX1_settle_2 5 = .ok (.iload_n 2, 1) := by decide +kernel
theorem dX1_settle_2_6 : decode cX1_settle_2 6 = .ok (.iastore, 1) := by decide +kernel
theorem dX1_settle_2_7 : decode cX1_settle_2 7 = .ok (.aload_n 0, 1) := by decide +kernel
theorem dX1_settle_2_8 : decode cX1_settle_2 8 = .ok (.getfield 16, 3) := by decide +kernel
theorem dX1_settle_2_11 : decode cX1_settle_2 11 = .ok (.iload_n 1, 1) := by decide +kernel
theorem dX1_settle_2_12 : decode cX1_settle_2 12 = .ok (.iload_n 3, 1) := by decide +kernel
theorem dX1_settle_2_13 : decode cX1_settle_2 13 = .ok (.iastore, 1) := by decide +kernel
theorem dX1_settle_2_14 : decode cX1_settle_2 14 = .ok (.aload_n 0, 1) := by decide +kernel
theorem dX1_settle_2_15 : decode cX1_settle_2 15 = .ok (.getfield 19, 3) := by decide +kernel
theorem dX1_settle_2_18 : decode cX1_settle_2 18 = .ok (.iload_n 1, 1) := by decide +kernel
theorem dX1_settle_2_19 : decode cX1_settle_2 19 = .ok (.iaload, 1) := by decide +kernel
theorem dX1_settle_2_20 : decode cX1_settle_2 20 = .ok (.istore 4, 2) := by decide +kernel
theorem dX1_settle_2_22 : decode cX1_settle_2 22 = .ok (.iload 4, 2) := by decide +kernel
theorem dX1_settle_2_24 : decode cX1_settle_2 24 = .ok (.ifCond .eq 23, 3) := by decide +kernel
theorem dX1_settle_2_27 : decode cX1_settle_2 27 = .ok (.aload_n 0, 1) := by decide +kernel
theorem dX1_settle_2_28 : decode cX1_settle_2 28 = .ok (.iload 4, 2) := by decide +kernel
theorem dX1_settle_2_30 : decode cX1_settle_2 30 = .ok (.iload_n 2, 1) := by decide +kernel
theorem dX1_settle_2_31 : decode cX1_settle_2 31 = .ok (.iload_n 3, 1) := by decide +kernel
theorem dX1_settle_2_32 : decode cX1_settle_2 32 = .ok (.invokevirtual 186, 3) := by decide +kernel
theorem dX1_settle_2_35 : decode cX1_settle_2 35 = .ok (.aload_n 0, 1) := by decide +kernel
theorem dX1_settle_2_36 : decode cX1_settle_2 36 = .ok (.getfield 83, 3) := by decide +kernel
theorem dX1_settle_2_39 : decode cX1_settle_2 39 = .ok (.iload 4, 2) := by decide +kernel
theorem dX1_settle_2_41 : decode cX1_settle_2 41 = .ok (.iaload, 1) := by decide +kernel
theorem dX1_settle_2_42 : decode cX1_settle_2 42 = .ok (.istore 4, 2) := by decide +kernel
theorem dX1_settle_2_44 : decode cX1_settle_2 44 = .ok (.goto (-22), 3) := by decide +kernel
theorem dX1_settle_2_47 : decode cX1_settle_2 47 = .ok (.aload_n 0, 1) := by decide +kernel
theorem dX1_settle_2_48 : decode cX1_settle_2 48 = .ok (.getfield 19, 3) := by decide +kernel
theorem dX1_settle_2_51 : decode cX1_settle_2 51 = .ok (.iload_n 1, 1) := by decide +kernel
theorem dX1_settle_2_52 : decode cX1_settle_2 52 = .ok (.iconst 0, 1) := by decide +kernel
theorem dX1_settle_2_53 : decode cX1_settle_2 53 = .ok (.iastore, 1) := by decide +kernel
theorem dX1_settle_2_54 : decode cX1_settle_2 54 = .ok (.return_, 1) := by decide +kernel
theorem dX1_resolve_0 : decode cX1_resolve 0 = .ok (.iload_n 2, 1) := by decide +kernel
theorem dX1_resolve_1 : decode cX1_resolve 1 = .ok (.iload_n 1, 1) := by decide +kernel
theorem dX1_resolve_2 : decode cX1_resolve 2 = .ok (.invokestatic 160, 3) := by decide +kernel
theorem dX1_resolve_5 : decode cX1_resolve 5 = .ok (.if_icmp .ne 14, 3) := by decide +kernel
theorem dX1_resolve_8 : decode cX1_resolve 8 = .ok (.aload_n 0, 1) := by decide +kernel
theorem dX1_resolve_9 : decode cX1_resolve 9 = .ok (.iload_n 1, 1) := by decide +kernel
theorem dX1_resolve_10 : decode cX1_resolve 10 = .ok (.iconst 2, 1) := by decide +kernel
theorem dX1_resolve_11 : decode cX1_resolve 11 = .ok (.aload_n 0, 1) := by decide +kernel
theorem dX1_resolve_12 : decode cX1_resolve 12 = .ok (.invokevirtual 190, 3) := by decide +kernel
theorem dX1_resolve_15 : decode cX1_resolve 15 = .ok (.invokevirtual 194, 3) := by decide +kernel
theorem dX1_resolve_18 : decode cX1_resolve 18 = .ok (.return_, 1) := by decide +kernel
theorem dX1_resolve_19 : decode cX1_resolve 19 = .ok (.iload_n 2, 1) := by decide +kernel
theorem dX1_resolve_20 : decode cX1_resolve 20 = .ok (.invokestatic 197, 3) := by decide +kernel
theorem dX1_resolve_23 : decode cX1_resolve 23 = .ok (.ifCond .eq 16, 3) := by decide +kernel
theorem dX1_resolve_26 : decode cX1_resolve 26 = .ok (.aload_n 0, 1) := by decide +kernel
theorem dX1_resolve_27 : decode cX1_resolve 27 = .ok (.getfield 9, 3) := by decide +kernel
theorem dX1_resolve_30 : decode cX1_resolve 30 = .ok (.iload_n 2, 1) := by decide +kernel
theorem dX1_resolve_31 : decode cX1_resolve 31 = .ok (.invokestatic 201, 3) := by decide +kernel
theorem dX1_resolve_34 : decode cX1_resolve 34 = .ok (.iaload, 1) := by decide +kernel
theorem dX1_resolve_35 : decode cX1_resolve 35 = .ok (.iconst 1, 1) := by decide +kernel
theorem dX1_resolve_36 : decode cX1_resolve 36 = .ok (.if_icmp .le 11, 3) := by decide +kernel
theorem dX1_resolve_39 : decode cX1_resolve 39 = .ok (.aload_n 0, 1) := by decide +kernel
theorem dX1_resolve_40 : decode cX1_resolve 40 = .ok (.iload_n 1, 1) := by decide +kernel
theorem dX1_resolve_41 : decode cX1_resolve 41 = .ok (.iconst 1, 1) := by decide +kernel
theorem dX1_resolve_42 : decode cX1_resolve 42 = .ok (.iload_n 2, 1) := by decide +kernel
theorem dX1_resolve_43 : decode cX1_resolve 43 = .ok (.invokevirtual 194, 3) := by decide +kernel
theorem dX1_resolve_46 : decode cX1_resolve 46 = .ok (.return_, 1) := by decide +kernel
theorem dX1_resolve_47 : decode cX1_resolve 47 = .ok (.iload_n 2, 1) := by decide +kernel
theorem dX1_resolve_48 : decode cX1_resolve 48 = .ok (.invokestatic 201, 3) := by decide +kernel
theorem dX1_resolve_51 : decode cX1_resolve 51 = .ok (.istore_n 3, 1) := by decide +kernel
theorem dX1_resolve_52 : decode cX1_resolve 52 = .ok (.aload_n 0, 1) := by decide +kernel
theorem dX1_resolve_53 : decode cX1_resolve 53 = .ok (.getfield 9, 3) := by decide +kernel
theorem dX1_resolve_56 : decode cX1_resolve 56 = .ok (.iload_n 3, 1) := by decide +kernel
theorem dX1_resolve_57 : decode cX1_resolve 57 = .ok (.iaload, 1) := by decide +kernel
theorem dX1_resolve_58 : decode cX1_resolve 58 = .ok (.iconst 1, 1) := by decide +kernel
theorem dX1_resolve_59 : decode cX1_resolve 59 = .ok (.if_icmp .ne 53, 3) := by decide +kernel
theorem dX1_resolve_62 : decode cX1_resolve 62 = .ok (.aload_n 0, 1) := by decide +kernel
theorem dX1_resolve_63 : decode cX1_resolve 63 = .ok (.getfield 32, 3) := by decide +kernel
theorem dX1_resolve_66 : decode cX1_resolve 66 = .ok (.iload_n 3, 1) := by decide +kernel
theorem dX1_resolve_67 : decode cX1_resolve 67 = .ok (.iaload, 1) := by decide +kernel
theorem dX1_resolve_68 : decode cX1_resolve 68 = .ok (.ifCond .eq 44, 3) := by decide +kernel
theorem dX1_resolve_71 : decode cX1_resolve 71 = .ok (.aload_n 0, 1) := by decide +kernel
theorem dX1_resolve_72 : decode cX1_resolve 72 = .ok (.iload_n 1, 1) := by decide +kernel
theorem dX1_resolve_73 : decode cX1_resolve 73 = .ok (.aload_n 0, 1) := by decide +kernel
theorem dX1_resolve_74 : decode cX1_resolve 74 = .ok (.getfield 32, 3) := by decide +kernel
theorem dX1_resolve_77 : decode cX1_resolve 77 = .ok (.iload_n 3, 1) := by decide +kernel
theorem dX1_resolve_78 : decode cX1_resolve 78 = .ok (.iaload, 1) := by decide +kernel
theorem dX1_resolve_79 : decode cX1_resolve 79 = .ok (.iconst 1, 1) := by decide +kernel
theorem dX1_resolve_80 : decode cX1_resolve 80 = .ok (.if_icmp .ne 7, 3) := by decide +kernel
theorem dX1_resolve_83 : decode cX1_resolve 83 = .ok (.iconst 2, 1) := by decide +kernel
theorem dX1_resolve_84 : decode cX1_resolve 84 = .ok (.goto 4, 3) := by decide +kernel
theorem dX1_resolve_87 : decode cX1_resolve 87 = .ok (.iconst 1, 1) := by decide +kernel
theorem dX1_resolve_88 : decode cX1_resolve 88 = .ok (.aload_n 0, 1) := by decide +kernel
theorem dX1_resolve_89 : decode cX1_resolve 89 = .ok (.getfield 32, 3) := by decide +kernel
theorem dX1_resolve_92 : decode cX1_resolve 92 = .ok (.iload_n 3, 1) := by decide +kernel
theorem dX1_resolve_93 : decode cX1_resolve 93 = .ok (.iaload, 1) := by decide +kernel
theorem dX1_resolve_94 : decode cX1_resolve 94 = .ok (.iconst 1, 1) := by decide +kernel
theorem dX1_resolve_95 : decode cX1_resolve 95 = .ok (.if_icmp .ne 12, 3) := by decide +kernel
theorem dX1_resolve_98 : decode cX1_resolve 98 = .ok (.aload_n 0, 1) := by decide +kernel
theorem dX1_resolve_99 : decode cX1_resolve 99 = .ok (.getfield 38, 3) := by decide +kernel
theorem dX1_resolve_102 : decode cX1_resolve 102 = .ok (.iload_n 3, 1) := by decide +kernel
theorem dX1_resolve_103 : decode cX1_resolve 103 = .ok (.iaload, 1) := by decide +kernel
theorem dX1_resolve_104 : decode cX1_resolve 104 = .ok (.goto 4, 3) := by decide +kernel
theorem dX1_resolve_107 : decode cX1_resolve 107 = .ok (.iload_n 2, 1) := by decide +kernel
theorem dX1_resolve_108 : decode cX1_resolve 108 = .ok (.invokevirtual 194, 3) := by decide +kernel
theorem dX1_resolve_111 : decode cX1_resolve 111 = .ok (.return_, 1) := by decide +kernel
theorem dX1_resolve_112 : decode cX1_resolve 112 = .ok (.aload_n 0, 1) := by decide +kernel
theorem dX1_resolve_113 : decode cX1_resolve 113 = .ok (.iconst (-1), 1) := by decide +kernel
theorem dX1_resolve_114 : decode cX1_resolve 114 = .ok (.iload_n 3, 1) := by decide +kernel
theorem dX1_resolve_115 : decode cX1_resolve 115 = .ok (.isub, 1) := by decide +kernel
theorem dX1_resolve_116 : decode cX1_resolve 116 = .ok (.iload_n 1, 1) := by decide +kernel
theorem dX1_resolve_117 : decode cX1_resolve 117 = .ok (.iconst 0, 1) := by decide +kernel
theorem dX1_resolve_118 : decode cX1_resolve 118 = .ok (.invokevirtual 186, 3) := by decide +kernel
theorem dX1_resolve_121 : decode cX1_resolve 121 = .ok (.return_, 1) := by decide +kernel
theorem dX1_wait_0 : decode cX1_wait 0 = .ok (.aload_n 0, 1) := by decide +kernel
theorem dX1_wait_1 : decode cX1_wait 1 = .ok (.getfield 86, 3) := by decide +kernel
theorem dX1_wait_4 : decode cX1_wait 4 = .ok (.aload_n 0, 1) := by decide +kernel
theorem dX1_wait_5 : decode cX1_wait 5 = .ok (.getfield 68, 3) := by decide +kernel
theorem dX1_wait_8 : decode cX1_wait 8 = .ok (.arraylength, 1) := by decide +kernel
theorem dX1_wait_9 : decode cX1_wait 9 = .ok (.if_icmp .ne 89, 3) := by decide +kernel
theorem dX1_wait_12 : decode cX1_wait 12 = .ok (.iconst 2, 1) := by decide +kernel
theorem dX1_wait_13 : decode cX1_wait 13 = .ok (.aload_n 0, 1) := by decide +kernel
theorem dX1_wait_14 : decode cX1_wait 14 = .ok (.getfield 86, 3) := by decide +kernel
theorem dX1_wait_17 : decode cX1_wait 17 = .ok (.imul, 1) := by decide +kernel
theorem dX1_wait_18 : decode cX1_wait 18 = .ok (.istore 6, 2) := by decide +kernel
theorem dX1_wait_20 : decode cX1_wait 20 = .ok (.aload_n 0, 1) := by decide +kernel
theorem dX1_wait_21 : decode cX1_wait 21 = .ok (.aload_n 0, 1) := by decide +kernel
theorem dX1_wait_22 : decode cX1_wait 22 = .ok (.getfield 68, 3) := by decide +kernel
theorem dX1_wait_25 : decode cX1_wait 25 = .ok (.iload 6, 2) := by decide +kernel
theorem dX1_wait_27 : decode cX1_wait 27 = .ok (.invokestatic 144, 3) := by decide +kernel
theorem dX1_wait_30 : decode cX1_wait 30 = .ok (.putfield 68, 3) := by decide +kernel
theorem dX1_wait_33 : decode cX1_wait 33 = .ok (.aload_n 0, 1) := by decide +kernel
theorem dX1_wait_34 : decode cX1_wait 34 = .ok (.aload_n 0, 1) := by decide +kernel
theorem dX1_wait_35 : decode cX1_wait 35 = .ok (.getfield 71, 3) := by decide +kernel
theorem dX1_wait_38 : decode cX1_wait 38 = .ok (.iload 6, 2) := by decide +kernel
theorem dX1_wait_40 : decode cX1_wait 40 = .ok (.invokestatic 144, 3) := by decide +kernel
theorem dX1_wait_43 : decode cX1_wait 43 = .ok (.putfield 71, 3) := by decide +kernel
theorem dX1_wait_46 : decode cX1_wait 46 = .ok (.aload_n 0, 1) := by decide +kernel
theorem dX1_wait_47 : decode cX1_wait 47 = .ok (.aload_n 0, 1) := by decide +kernel
theorem dX1_wait_48 : decode cX1_wait 48 = .ok (.getfield 74, 3) := by decide +kernel
theorem dX1_wait_51 : decode cX1_wait 51 = .ok (.iload 6, 2) := by decide +kernel
theorem dX1_wait_53 : decode cX1_wait 53 = .ok (.invokestatic 144, 3) := by decide +kernel
theorem dX1_wait_56 : decode cX1_wait 56 = .ok (.putfield 74, 3) := by decide +kernel
theorem dX1_wait_59 : decode cX1_wait 59 = .ok (.aload_n 0, 1) := by decide +kernel
theorem dX1_wait_60 : decode cX1_wait 60 = .ok (.aload_n 0, 1) := by decide +kernel
theorem dX1_wait_61 : decode cX1_wait 61 = .ok (.getfield 77, 3) := by decide +kernel
theorem dX1_wait_64 : decode cX1_wait 64 = .ok (.iload 6, 2) := by decide +kernel
theorem dX1_wait_66 : decode cX1_wait 66 = .ok (.invokestatic 144, 3) := by decide +kernel
theorem dX1_wait_69 : decode cX1_wait 69 = .ok (.putfield 77, 3) := by decide +kernel
theorem dX1_wait_72 : decode cX1_wait 72 = .ok (.aload_n 0, 1) := by decide +kernel
theorem dX1_wait_73 : decode cX1_wait 73 = .ok (.aload_n 0, 1) := by decide +kernel
theorem dX1_wait_74 : decode cX1_wait 74 = .ok (.getfield 80, 3) := by decide +kernel
theorem dX1_wait_77 : decode cX1_wait 77 = .ok (.iload 6, 2) := by decide +kernel
theorem dX1_wait_79 : decode cX1_wait 79 = .ok (.invokestatic 144, 3) := by decide +kernel
theorem dX1_wait_82 : decode cX1_wait 82 = .ok (.putfield 80, 3) := by decide +kernel
theorem dX1_wait_85 : decode cX1_wait 85 = .ok (.aload_n 0, 1) := by decide +kernel
theorem dX1_wait_86 : decode cX1_wait 86 = .ok (.aload_n 0, 1) := by decide +kernel
theorem dX1_wait_87 : decode cX1_wait 87 = .ok (.getfield 83, 3) := by decide +kernel
theorem dX1_wait_90 : decode cX1_wait 90 = .ok (.iload 6, 2) := by decide +kernel
theorem dX1_wait_92 : decode cX1_wait 92 = .ok (.invokestatic 144, 3) := by decide +kernel
theorem dX1_wait_95 : decode cX1_wait 95 = .ok (.putfield 83, 3) := by decide +kernel
theorem dX1_wait_98 : decode cX1_wait 98 = .ok (.aload_n 0, 1) := by decide +kernel
theorem dX1_wait_99 : decode cX1_wait 99 = .ok (.getfield 86, 3) := by decide +kernel
theorem dX1_wait_102 : decode cX1_wait 102 = .ok (.istore 6, 2) := by decide +kernel
theorem dX1_wait_104 : decode cX1_wait 104 = .ok (.aload_n 0, 1) := by decide +kernel
theorem dX1_wait_105 : decode cX1_wait 105 = .ok (.dup, 1) := by decide +kernel
theorem dX1_wait_106 : decode cX1_wait 106 = .ok (.getfield 86, 3) := by decide +kernel
theorem dX1_wait_109 : decode cX1_wait 109 = .ok (.iconst 1, 1) := by decide +kernel
theorem dX1_wait_110 : decode cX1_wait 110 = .ok (.iadd, 1) := by decide +kernel
theorem dX1_wait_111 : decode cX1_wait 111 = .ok (.putfield 86, 3) := by decide +kernel
theorem dX1_wait_114 : decode cX1_wait 114 = .ok (.aload_n 0, 1) := by decide +kernel
theorem dX1_wait_115 : decode cX1_wait 115 = .ok (.getfield 68, 3) := by decide +kernel
theorem dX1_wait_118 : decode cX1_wait 118 = .ok (.iload 6, 2) := by decide +kernel
theorem dX1_wait_120 : decode cX1_wait 120 = .ok (.iload_n 1, 1) := by decide +kernel
theorem dX1_wait_121 : decode cX1_wait 121 = .ok (.iastore, 1) := by decide +kernel
theorem dX1_wait_122 : decode cX1_wait 122 = .ok (.aload_n 0, 1) := by decide +kernel
theorem dX1_wait_123 : decode cX1_wait 123 = .ok (.getfield 71, 3) := by decide +kernel
theorem dX1_wait_126 : decode cX1_wait 126 = .ok (.iload 6, 2) := by decide +kernel
theorem dX1_wait_128 : decode cX1_wait 128 = .ok (.iload_n 2, 1) := by decide +kernel
theorem dX1_wait_129 : decode cX1_wait 129 = .ok (.iastore, 1) := by decide +kernel
theorem dX1_wait_130 : decode cX1_wait 130 = .ok (.aload_n 0, 1) := by decide +kernel
theorem dX1_wait_131 : decode cX1_wait 131 = .ok (.getfield 74, 3) := by decide +kernel
theorem dX1_wait_134 : decode cX1_wait 134 = .ok (.iload 6, 2) := by decide +kernel
theorem dX1_wait_136 : decode cX1_wait 136 = .ok (.iload_n 3, 1) := by decide +kernel
theorem dX1_wait_137 : decode cX1_wait 137 = .ok (.iastore, 1) := by decide +kernel
theorem dX1_wait_138 : decode cX1_wait 138 = .ok (.aload_n 0, 1) := by decide +kernel
theorem dX1_wait_139 : decode cX1_wait 139 = .ok (.getfield 77, 3) := by decide +kernel
theorem dX1_wait_142 : decode cX1_wait 142 = .ok (.iload 6, 2) := by decide +kernel
theorem dX1_wait_144 : decode cX1_wait 144 = .ok (.iload 4, 2) := by decide +kernel
theorem dX1_wait_146 : decode cX1_wait 146 = .ok (.iastore, 1) := by decide +kernel
theorem dX1_wait_147 : decode cX1_wait 147 = .ok (.aload_n 0, 1) := by decide +kernel
theorem dX1_wait_148 : decode cX1_wait 148 = .ok (.getfield 80, 3) := by decide +kernel
theorem dX1_wait_151 : decode cX1_wait 151 = .ok (.iload 6, 2) := by decide +kernel
theorem dX1_wait_153 : decode cX1_wait 153 = .ok (.iload 5, 2) := by decide +kernel
theorem dX1_wait_155 : decode cX1_wait 155 = .ok (.iastore, 1) := by decide +kernel
theorem dX1_wait_156 : decode cX1_wait 156 = .ok (.aload_n 0, 1) := by decide +kernel
theorem dX1_wait_157 : decode cX1_wait 157 = .ok (.getfield 83, 3) := by decide +kernel
theorem dX1_wait_160 : decode cX1_wait 160 = .ok (.iload 6, 2) := by decide +kernel
theorem dX1_wait_162 : decode cX1_wait 162 = .ok (.iconst 0, 1) := by decide +kernel
theorem dX1_wait_163 : decode cX1_wait 163 = .ok (.iastore, 1) := by decide +kernel
theorem dX1_wait_164 : decode cX1_wait 164 = .ok (.iload 6, 2) := by decide +kernel
theorem dX1_wait_166 : decode cX1_wait 166 = .ok (.ireturn, 1) := by decide +kernel
theorem dX1_perform_0 : decode cX1_perform 0 = .ok (.aload_n 0, 1) := by decide +kernel
theorem dX1_perform_1 : decode cX1_perform 1 = .ok (.getfield 13, 3) := by decide +kernel
theorem dX1_perform_4 : decode cX1_perform 4 = .ok (.iload_n 1, 1) := by decide +kernel
theorem dX1_perform_5 : decode cX1_perform 5 = .ok (.iaload, 1) := by decide +kernel
theorem dX1_perform_6 : decode cX1_perform 6 = .ok (.ifCond .ne 44, 3) := by decide +kernel
theorem dX1_perform_9 : decode cX1_perform 9 = .ok (.aload_n 0, 1) := by decide +kernel
theorem dX1_perform_10 : decode cX1_perform 10 = .ok (.getfield 19, 3) := by decide +kernel
theorem dX1_perform_13 : decode cX1_perform 13 = .ok (.iload_n 1, 1) := by decide +kernel
theorem dX1_perform_14 : decode cX1_perform 14 = .ok (.iaload, 1) := by decide +kernel
theorem dX1_perform_15 : decode cX1_perform 15 = .ok (.ifCond .ne 13, 3) := by decide +kernel
theorem dX1_perform_18 : decode cX1_perform 18 = .ok (.aload_n 0, 1) := by decide +kernel
theorem dX1_perform_19 : decode cX1_perform 19 = .ok (.getfield 19, 3) := by decide +kernel
theorem dX1_perform_22 : decode cX1_perform 22 = .ok (.iload_n 1, 1) := by decide +kernel
theorem dX1_perform_23 : decode cX1_perform 23 = .ok (.iload_n 2, 1) := by decide +kernel
theorem dX1_perform_24 : decode cX1_perform 24 = .ok (.iastore, 1) := by decide +kernel
theorem dX1_perform_25 : decode cX1_perform 25 = .ok (.goto 15, 3) := by decide +kernel
theorem dX1_perform_28 : decode cX1_perform 28 = .ok (.aload_n 0, 1) := by decide +kernel
theorem dX1_perform_29 : decode cX1_perform 29 = .ok (.getfield 83, 3) := by decide +kernel
theorem dX1_perform_32 : decode cX1_perform 32 = .ok (.aload_n 0, 1) := by decide +kernel
theorem dX1_perform_33 : decode cX1_perform 33 = .ok (.getfield 22, 3) := by decide +kernel
theorem dX1_perform_36 : decode cX1_perform 36 = .ok (.iload_n 1, 1) := by decide +kernel
theorem dX1_perform_37 : decode cX1_perform 37 = .ok (.iaload, 1) := by decide +kernel
theorem dX1_perform_38 : decode cX1_perform 38 = .ok (.iload_n 2, 1) := by decide +kernel
theorem dX1_perform_39 : decode cX1_perform 39 = .ok (.iastore, 1) := by decide +kernel
theorem dX1_perform_40 : decode cX1_perform 40 = .ok (.aload_n 0, 1) := by decide +kernel
theorem dX1_perform_41 : decode cX1_perform 41 = .ok (.getfield 22, 3) := by decide +kernel
theorem dX1_perform_44 : decode cX1_perform 44 = .ok (.iload_n 1, 1) := by decide +kernel
theorem dX1_perform_45 : decode cX1_perform 45 = .ok (.iload_n 2, 1) := by decide +kernel
theorem dX1_perform_46 : decode cX1_perform 46 = .ok (.iastore, 1) := by decide +kernel
theorem dX1_perform_47 : decode cX1_perform 47 = .ok (.goto 20, 3) := by decide +kernel
theorem dX1_perform_50 : decode cX1_perform 50 = .ok (.aload_n 0, 1) := by decide +kernel
theorem dX1_perform_51 : decode cX1_perform 51 = .ok (.iload_n 2, 1) := by decide +kernel
theorem dX1_perform_52 : decode cX1_perform 52 = .ok (.aload_n 0, 1) := by decide +kernel
theorem dX1_perform_53 : decode cX1_perform 53 = .ok (.getfield 13, 3) := by decide +kernel
theorem dX1_perform_56 : decode cX1_perform 56 = .ok (.iload_n 1, 1) := by decide +kernel
theorem dX1_perform_57 : decode cX1_perform 57 = .ok (.iaload, 1) := by decide +kernel
theorem dX1_perform_58 : decode cX1_perform 58 = .ok (.aload_n 0, 1) := by decide +kernel
theorem dX1_perform_59 : decode cX1_perform 59 = .ok (.getfield 16, 3) := by decide +kernel
theorem dX1_perform_62 : decode cX1_perform 62 = .ok (.iload_n 1, 1) := by decide +kernel
theorem dX1_perform_63 : decode cX1_perform 63 = .ok (.iaload, 1) := by decide +kernel
theorem dX1_perform_64 : decode cX1_perform 64 = .ok (.invokevirtual 186, 3) := by decide +kernel
theorem dX1_perform_67 : decode cX1_perform 67 = .ok (.aload_n 0, 1) := by decide +kernel
theorem dX1_perform_68 : decode cX1_perform 68 = .ok (.getfield 28, 3) := by decide +kernel
theorem dX1_perform_71 : decode cX1_perform 71 = .ok (.iload_n 1, 1) := by decide +kernel
theorem dX1_perform_72 : decode cX1_perform 72 = .ok (.iconst 1, 1) := by decide +kernel
theorem dX1_perform_73 : decode cX1_perform 73 = .ok (.bastore, 1) := by decide +kernel
theorem dX1_perform_74 : decode cX1_perform 74 = .ok (.return_, 1) := by decide +kernel
theorem dX1_then_0 : decode cX1_then 0 = .ok (.aload_n 0, 1) := by decide +kernel
theorem dX1_then_1 : decode cX1_then 1 = .ok (.invokevirtual 204, 3) := by decide +kernel
theorem dX1_then_4 : decode cX1_then 4 = .ok (.istore 4, 2) := by decide +kernel
theorem dX1_then_6 : decode cX1_then 6 = .ok (.aload_n 0, 1) := by decide +kernel
theorem dX1_then_7 : decode cX1_then 7 = .ok (.iload 4, 2) := by decide +kernel
theorem dX1_then_9 : decode cX1_then 9 = .ok (.invokevirtual 207, 3) := by decide +kernel
theorem dX1_then_12 : decode cX1_then 12 = .ok (.istore 5, 2) := by decide +kernel
theorem dX1_then_14 : decode cX1_then 14 = .ok (.aload_n 0, 1) := by decide +kernel
theorem dX1_then_15 : decode cX1_then 15 = .ok (.iload_n 1, 1) := by decide +kernel
theorem dX1_then_16 : decode cX1_then 16 = .ok (.aload_n 0, 1) := by decide +kernel
theorem dX1_then_17 : decode cX1_then 17 = .ok (.iload_n 2, 1) := by decide +kernel
theorem dX1_then_18 : decode cX1_then 18 = .ok (.iload_n 3, 1) := by decide +kernel
theorem dX1_then_19 : decode cX1_then 19 = .ok (.iload 5, 2) := by decide +kernel
theorem dX1_then_21 : decode cX1_then 21 = .ok (.iload 5, 2) := by decide +kernel
theorem dX1_then_23 : decode cX1_then 23 = .ok (.iconst 1, 1) := by decide +kernel
theorem dX1_then_24 : decode cX1_then 24 = .ok (.iadd, 1) := by decide +kernel
theorem dX1_then_25 : decode cX1_then 25 = .ok (.iconst (-1), 1) := by decide +kernel
theorem dX1_then_26 : decode cX1_then 26 = .ok (.invokevirtual 210, 3) := by decide +kernel
theorem dX1_then_29 : decode cX1_then 29 = .ok (.invokevirtual 214, 3) := by decide +kernel
theorem dX1_then_32 : decode cX1_then 32 = .ok (.iload 4, 2) := by decide +kernel
theorem dX1_then_34 : decode cX1_then 34 = .ok (.ireturn, 1) := by decide +kernel
theorem dX1_manyError_0 : decode cX1_manyError 0 = .ok (.aload_n 0, 1) := by decide +kernel
theorem dX1_manyError_1 : decode cX1_manyError 1 = .ok (.iconst 3, 1) := by decide +kernel
theorem dX1_manyError_2 : decode cX1_manyError 2 = .ok (.invokevirtual 156, 3) := by decide +kernel
theorem dX1_manyError_5 : decode cX1_manyError 5 = .ok (.istore_n 2, 1) := by decide +kernel
theorem dX1_manyError_6 : decode cX1_manyError 6 = .ok (.aload_n 0, 1) := by decide +kernel
theorem dX1_manyError_7 : decode cX1_manyError 7 = .ok (.getfield 13, 3) := by decide +kernel
theorem dX1_manyError_10 : decode cX1_manyError 10 = .ok (.iload_n 2, 1) := by decide +kernel
theorem dX1_manyError_11 : decode cX1_manyError 11 = .ok (.aload_n 0, 1) := by decide +kernel
theorem dX1_manyError_12 : decode cX1_manyError 12 = .ok (.iconst 4, 1) := by decide +kernel
theorem dX1_manyError_13 : decode cX1_manyError 13 = .ok (.iload_n 1, 1) := by decide +kernel
theorem dX1_manyError_14 : decode cX1_manyError 14 = .ok (.iconst 4, 1) := by decide +kernel
theorem dX1_manyError_15 : decode cX1_manyError 15 = .ok (.iadd, 1) := by decide +kernel
theorem dX1_manyError_16 : decode cX1_manyError 16 = .ok (.aload_n 0, 1) := by decide +kernel
theorem dX1_manyError_17 : decode cX1_manyError 17 = .ok (.getfield 105, 3) := by decide +kernel
theorem dX1_manyError_20 : decode cX1_manyError 20 = .ok (.iload_n 1, 1) := by decide +kernel
theorem dX1_manyError_21 : decode cX1_manyError 21 = .ok (.iconst 1, 1) := by decide +kernel
theorem dX1_manyError_22 : decode cX1_manyError 22 = .ok (.iadd, 1) := by decide +kernel
theorem dX1_manyError_23 : decode cX1_manyError 23 = .ok (.iaload, 1) := by decide +kernel
theorem dX1_manyError_24 : decode cX1_manyError 24 = .ok (.invokevirtual 250, 3) := by decide +kernel
theorem dX1_manyError_27 : decode cX1_manyError 27 = .ok (.invokestatic 201, 3) := by decide +kernel
theorem dX1_manyError_30 : decode cX1_manyError 30 = .ok (.iastore, 1) := by decide +kernel
theorem dX1_manyError_31 : decode cX1_manyError 31 = .ok (.iload_n 2, 1) := by decide +kernel
theorem dX1_manyError_32 : decode cX1_manyError 32 = .ok (.invokestatic 160, 3) := by decide +kernel
theorem dX1_manyError_35 : decode cX1_manyError 35 = .ok (.ireturn, 1) := by decide +kernel
section WALK
variable {p : Program} {l : Launch} {e : Env} {R : Room} {s : State} {m : MethodId} {args : Array Value} {below : List Frame} {meth : Method} {c : Code} {H : Heap} {locs : List Loc} {cells slots : Nat}
variable {E : Ev} {h0 : Nat} {P0 : Le} {kc0 ks0 : Nat} {S0 : State} {A : Nat → Prop} {P : Le} {ls : Array Slot}
theorem m1_settle_2_L22 {Q : Po} {PX : Px} (X : Cx E 0 h0 P0 kc0 ks0 S0 A p l R s m args meth c cX1_settle_2 5 none 4) : ∀ n, ∀ {a1 : Int} {a2 : Int} {a3 : Int} {a4 : Int} {V : Mv} {Z : Le} {P : Le} {H : Heap} {locs : List Loc} {cells slots : Nat} {ls : Array Slot}, inM V → HS E 0 h0 P0 kc0 ks0 (sbs [29, 30, 31, 32]) A s.heap P (toC V) Z H locs cells slots → lv_has ls 5 [(0, .ref h0), (1, .int (I3 a1)), (2, .int (I3 a2)), (3, .int (I3 a3)), (4, .int (I3 a4))] → inR a1 → inR a2 → inR a3 → inR a4 → w1_settle_2_L22 Q n a1 a2 a3 a4 V Z → W p l e R s m args below meth c H locs cells slots (MQx below (QT E 0 h0 false P0 kc0 ks0 (sbs [29, 30, 31, 32]) A (QL Q) (PL PX) s) s) (F0 m 22 ls []) := by
  have hx := X.2.1
  have hb := X.2.2.1
  intro n
  induction n with
  | zero => intros; rename_i hw; exact hw.elim
  | succ n ih =>
    intro a1 a2 a3 a4 V Z P H locs cells slots ls hM hS hl r1 r2 r3 r4 hw
    unfold w1_settle_2_L22 at hw
    refine lv_iload hx hb dX1_settle_2_22 (lv_at hl 4 rfl) ?_
    refine z_zeq (tgt := 47) hx hb r4 hw dX1_settle_2_24 (by decide) (fun hc hw => ?_) (fun hc hw => ?_)
    · refine lv_aload_n hx hb dX1_settle_2_47 rfl (lv_at hl 0 rfl) ?_
      refine r_ga X hS f1_3 dX1_settle_2_48 ?_
      refine lv_iload_n hx hb dX1_settle_2_51 rfl (lv_at hl 1 rfl) ?_
      refine z_iconst hx hb dX1_settle_2_52 ?_
      refine z_is X hS hM a1_3 (⟨by decide, by decide⟩) hw dX1_settle_2_53 (fun V1 hM2 hw H locs hS => ?_)
      exact z_rv X hS hM2 hw dX1_settle_2_54
    · refine lv_aload_n hx hb dX1_settle_2_27 rfl (lv_at hl 0 rfl) ?_
      refine lv_iload hx hb dX1_settle_2_28 (lv_at hl 4 rfl) ?_
      refine lv_iload_n hx hb dX1_settle_2_30 rfl (lv_at hl 2 rfl) ?_
      refine lv_iload_n hx hb dX1_settle_2_31 rfl (lv_at hl 3 rfl) ?_
      refine z_callV X hS (m1_enqueue r4 r2 r3 hM hw) gv1_186 hy1_enqueue rfl (by omega) (by decide) (sbs_sub rfl) hl.1 (Nat.le_of_ble_eq_true rfl) dX1_settle_2_32 rfl (fun x3 V5 Z6 h4 hM7 hw P8 H locs c1 s1 hP hS => ?_)
      refine lv_aload_n hx hb dX1_settle_2_35 rfl (lv_at hl 0 rfl) ?_
      refine r_ga X hS f1_27 dX1_settle_2_36 ?_
      refine lv_iload hx hb dX1_settle_2_39 (lv_at hl 4 rfl) ?_
      refine z_il X hS a1_27 hw dX1_settle_2_41 (fun hw => ?_)
      refine lv_istore (lv' := [(4, .int (I3 (V5 27 a4))), (0, .ref h0), (1, .int (I3 a1)), (2, .int (I3 a2)), (3, .int (I3 a3))]) hx hb dX1_settle_2_42 hl (by decide) rfl (fun ls hl => ?_)
      refine lv_goto (tgt := 22) hx hb dX1_settle_2_44 (by decide) ?_
      exact ih hM7 hS (lv_sub hl [1, 2, 3, 4, 0] rfl) r1 r2 r3 (hM7 27 a4) hw
theorem m1_settle_2 {a1 : Int} {a2 : Int} {a3 : Int} {V : Mv} {Z : Le} {Q : Po} {PX : Px} (r1 : inR a1) (r2 : inR a2) (r3 : inR a3) (hM : inM V) (hw : w1_settle_2 a1 a2 a3 V Z Q) : MT l S0 E 0 h0 yX1_settle_2 cX1_settle_2 5 none 4 false (sbs [29, 30, 31, 32]) [.int (I3 a1), .int (I3 a2), .int (I3 a3)] (toC V) Z (QL Q) (PL PX) := by
  refine mt_of Gk0 (by decide) rfl (Nat.le_of_ble_eq_true rfl) ?_
  intro p e s m below meth c A P ls X hS hl
  have hl : lv_has ls 5 [(0, .ref h0), (1, .int (I3 a1)), (2, .int (I3 a2)), (3, .int (I3 a3))] := hl
  have hx := X.2.1
  have hb := X.2.2.1
  unfold w1_settle_2 at hw
  refine lv_aload_n hx hb dX1_settle_2_0 rfl (lv_at hl 0 rfl) ?_
  refine r_ga X hS f1_1 dX1_settle_2_1 ?_
  refine lv_iload_n hx hb dX1_settle_2_4 rfl (lv_at hl 1 rfl) ?_
  refine lv_iload_n hx hb dX1_settle_2_5 rfl (lv_at hl 2 rfl) ?_
  refine z_is X hS hM a1_1 r2 hw dX1_settle_2_6 (fun V9 hM10 hw H locs hS => ?_)
  refine lv_aload_n hx hb dX1_settle_2_7 rfl (lv_at hl 0 rfl) ?_
  refine r_ga X hS f1_2 dX1_settle_2_8 ?_
  refine lv_iload_n hx hb dX1_settle_2_11 rfl (lv_at hl 1 rfl) ?_
  refine lv_iload_n hx hb dX1_settle_2_12 rfl (lv_at hl 3 rfl) ?_
  refine z_is X hS hM10 a1_2 r3 hw dX1_settle_2_13 (fun V11 hM12 hw H locs hS => ?_)
  refine lv_aload_n hx hb dX1_settle_2_14 rfl (lv_at hl 0 rfl) ?_
  refine r_ga X hS f1_3 dX1_settle_2_15 ?_
  refine lv_iload_n hx hb dX1_settle_2_18 rfl (lv_at hl 1 rfl) ?_
  refine z_il X hS a1_3 hw dX1_settle_2_19 (fun hw => ?_)
  refine lv_istore (lv' := [(4, .int (I3 (V11 3 a1))), (0, .ref h0), (1, .int (I3 a1)), (2, .int (I3 a2)), (3, .int (I3 a3))]) hx hb dX1_settle_2_20 hl (by decide) rfl (fun ls hl => ?_)
  obtain ⟨n, hw⟩ := hw
  exact m1_settle_2_L22 X n hM12 hS (lv_sub hl [1, 2, 3, 4, 0] rfl) r1 r2 r3 (hM12 3 a1) hw
theorem m1_resolve_J39 {a1 : Int} {a2 : Int} {V : Mv} {Z : Le} {Q : Po} {PX : Px} (X : Cx E 0 h0 P0 kc0 ks0 S0 A p l R s m args meth c cX1_resolve 4 none 5) (hM : inM V) (hS : HS E 0 h0 P0 kc0 ks0 (sbs [29, 30, 31, 32]) A s.heap P (toC V) Z H locs cells slots) (hl : lv_has ls 4 [(0, .ref h0), (1, .int (I3 a1)), (2, .int (I3 a2))]) (r1 : inR a1) (r2 : inR a2) (hw : w1_resolve_J39 a1 a2 V Z Q) : W p l e R s m args below meth c H locs cells slots (MQx below (QT E 0 h0 false P0 kc0 ks0 (sbs [29, 30, 31, 32]) A (QL Q) (PL PX) s) s) (F0 m 39 ls []) := by
  have hx := X.2.1
  have hb := X.2.2.1
  unfold w1_resolve_J39 at hw
  refine lv_aload_n hx hb dX1_resolve_39 rfl (lv_at hl 0 rfl) ?_
  refine lv_iload_n hx hb dX1_resolve_40 rfl (lv_at hl 1 rfl) ?_
  refine z_iconst hx hb dX1_resolve_41 ?_
  refine lv_iload_n hx hb dX1_resolve_42 rfl (lv_at hl 2 rfl) ?_
  refine z_callV X hS (m1_settle_2 r1 (⟨by decide, by decide⟩) r2 hM hw) gv1_194 hy1_settle_2 rfl (by omega) (by decide) (sbs_sub rfl) hl.1 (Nat.le_of_ble_eq_true rfl) dX1_resolve_43 rfl (fun x1 V3 Z4 h2 hM5 hw P6 H locs c1 s1 hP hS => ?_)
  exact z_rv X hS hM5 hw dX1_resolve_46
theorem m1_resolve_J112 {a1 : Int} {a3 : Int} {V : Mv} {Z : Le} {Q : Po} {PX : Px} (X : Cx E 0 h0 P0 kc0 ks0 S0 A p l R s m args meth c cX1_resolve 4 none 5) (hM : inM V) (hS : HS E 0 h0 P0 kc0 ks0 (sbs [29, 30, 31, 32]) A s.heap P (toC V) Z H locs cells slots) (hl : lv_has ls 4 [(0, .ref h0), (1, .int (I3 a1)), (3, .int (I3 a3))]) (r1 : inR a1) (r3 : inR a3) (hw : w1_resolve_J112 a1 a3 V Z Q) : W p l e R s m args below meth c H locs cells slots (MQx below (QT E 0 h0 false P0 kc0 ks0 (sbs [29, 30, 31, 32]) A (QL Q) (PL PX) s) s) (F0 m 112 ls []) := by
  have hx := X.2.1
  have hb := X.2.2.1
  unfold w1_resolve_J112 at hw
  refine lv_aload_n hx hb dX1_resolve_112 rfl (lv_at hl 0 rfl) ?_
  refine z_iconst hx hb dX1_resolve_113 ?_
  refine lv_iload_n hx hb dX1_resolve_114 rfl (lv_at hl 2 rfl) ?_
  refine z_sub hx hb hw dX1_resolve_115 (fun h7 hw => ?_)
  refine lv_iload_n hx hb dX1_resolve_116 rfl (lv_at hl 1 rfl) ?_
  refine z_iconst hx hb dX1_resolve_117 ?_
  refine z_callV X hS (m1_enqueue h7 r1 (⟨by decide, by decide⟩) hM hw) gv1_186 hy1_enqueue rfl (by omega) (by decide) (sbs_sub rfl) hl.1 (Nat.le_of_ble_eq_true rfl) dX1_resolve_118 rfl (fun x8 V10 Z11 h9 hM12 hw P13 H locs c1 s1 hP hS => ?_)
  exact z_rv X hS hM12 hw dX1_resolve_121
theorem m1_resolve_J108 {b1 : Int} {b2 : Int} {b3 : Int} {V : Mv} {Z : Le} {Q : Po} {PX : Px} (X : Cx E 0 h0 P0 kc0 ks0 S0 A p l R s m args meth c cX1_resolve 4 none 5) (hM : inM V) (hS : HS E 0 h0 P0 kc0 ks0 (sbs [29, 30, 31, 32]) A s.heap P (toC V) Z H locs cells slots) (hl : lv_has ls 4 []) (sr1 : inR b1) (sr2 : inR b2) (sr3 : inR b3) (hw : w1_resolve_J108 b1 b2 b3 V Z Q) : W p l e R s m args below meth c H locs cells slots (MQx below (QT E 0 h0 false P0 kc0 ks0 (sbs [29, 30, 31, 32]) A (QL Q) (PL PX) s) s) (F0 m 108 ls [.int (I3 b3), .int (I3 b2), .int (I3 b1), .ref h0]) := by
  have hx := X.2.1
  have hb := X.2.2.1
  unfold w1_resolve_J108 at hw
  refine z_callV X hS (m1_settle_2 sr1 sr2 sr3 hM hw) gv1_194 hy1_settle_2 rfl (by omega) (by decide) (sbs_sub rfl) hl.1 (Nat.le_of_ble_eq_true rfl) dX1_resolve_108 rfl (fun x14 V16 Z17 h15 hM18 hw P19 H locs c1 s1 hP hS => ?_)
  exact z_rv X hS hM18 hw dX1_resolve_111
theorem m1_resolve_J88 {a2 : Int} {a3 : Int} {b1 : Int} {b2 : Int} {V : Mv} {Z : Le} {Q : Po} {PX : Px} (X : Cx E 0 h0 P0 kc0 ks0 S0 A p l R s m args meth c cX1_resolve 4 none 5) (hM : inM V) (hS : HS E 0 h0 P0 kc0 ks0 (sbs [29, 30, 31, 32]) A s.heap P (toC V) Z H locs cells slots) (hl : lv_has ls 4 [(0, .ref h0), (2, .int (I3 a2)), (3, .int (I3 a3))]) (r2 : inR a2) (r3 : inR a3) (sr1 : inR b1) (sr2 : inR b2) (hw : w1_resolve_J88 a2 a3 b1 b2 V Z Q) : W p l e R s m args below meth c H locs cells slots (MQx below (QT E 0 h0 false P0 kc0 ks0 (sbs [29, 30, 31, 32]) A (QL Q) (PL PX) s) s) (F0 m 88 ls [.int (I3 b2), .int (I3 b1), .ref h0]) := by
  have hx := X.2.1
  have hb := X.2.2.1
  unfold w1_resolve_J88 at hw
  refine lv_aload_n hx hb dX1_resolve_88 rfl (lv_at hl 0 rfl) ?_
  refine r_ga X hS f1_8 dX1_resolve_89 ?_
  refine lv_iload_n hx hb dX1_resolve_92 rfl (lv_at hl 2 rfl) ?_
  refine z_il X hS a1_8 hw dX1_resolve_93 (fun hw => ?_)
  refine z_iconst hx hb dX1_resolve_94 ?_
  refine z_ine (tgt := 107) hx hb (hM 8 a3) (⟨by decide, by decide⟩) hw dX1_resolve_95 (by decide) (fun hc hw => ?_) (fun hc hw => ?_)
  · refine lv_iload_n hx hb dX1_resolve_107 rfl (lv_at hl 1 rfl) ?_
    exact m1_resolve_J108 X hM hS (lv_sub hl [] rfl) sr1 sr2 r2 hw
  · refine lv_aload_n hx hb dX1_resolve_98 rfl (lv_at hl 0 rfl) ?_
    refine r_ga X hS f1_10 dX1_resolve_99 ?_
    refine lv_iload_n hx hb dX1_resolve_102 rfl (lv_at hl 2 rfl) ?_
    refine z_il X hS a1_10 hw dX1_resolve_103 (fun hw => ?_)
    refine lv_goto (tgt := 108) hx hb dX1_resolve_104 (by decide) ?_
    exact m1_resolve_J108 X hM hS (lv_sub hl [] rfl) sr1 sr2 (hM 10 a3) hw
theorem m1_resolve {a1 : Int} {a2 : Int} {V : Mv} {Z : Le} {Q : Po} {PX : Px} (r1 : inR a1) (r2 : inR a2) (hM : inM V) (hw : w1_resolve a1 a2 V Z Q) : MT l S0 E 0 h0 yX1_resolve cX1_resolve 4 none 5 false (sbs [29, 30, 31, 32]) [.int (I3 a1), .int (I3 a2)] (toC V) Z (QL Q) (PL PX) := by
  refine mt_of Gk0 (by decide) rfl (Nat.le_of_ble_eq_true rfl) ?_
  intro p e s m below meth c A P ls X hS hl
  have hl : lv_has ls 4 [(0, .ref h0), (1, .int (I3 a1)), (2, .int (I3 a2))] := hl
  have hx := X.2.1
  have hb := X.2.2.1
  unfold w1_resolve at hw
  refine lv_iload_n hx hb dX1_resolve_0 rfl (lv_at hl 2 rfl) ?_
  refine lv_iload_n hx hb dX1_resolve_1 rfl (lv_at hl 1 rfl) ?_
  refine z_vo X hS hw gs1_160 (by omega) hl.1 (Nat.le_of_ble_eq_true rfl) dX1_resolve_2 (fun h20 hw => ?_)
  refine z_ine (tgt := 19) hx hb r2 h20 hw dX1_resolve_5 (by decide) (fun hc hw => ?_) (fun hc hw => ?_)
  · refine lv_iload_n hx hb dX1_resolve_19 rfl (lv_at hl 2 rfl) ?_
    refine z_isO X hS r2 gs1_197 (by omega) hl.1 (Nat.le_of_ble_eq_true rfl) dX1_resolve_20 ?_
    refine z_beq (tgt := 39) hx hb  hw dX1_resolve_23 (by decide) (fun hc hw => ?_) (fun hc hw => ?_)
    · exact m1_resolve_J39 X hM hS (lv_sub hl [0, 1, 2] rfl) r1 r2 hw
    · refine lv_aload_n hx hb dX1_resolve_26 rfl (lv_at hl 0 rfl) ?_
      refine r_ga X hS f1_0 dX1_resolve_27 ?_
      refine lv_iload_n hx hb dX1_resolve_30 rfl (lv_at hl 2 rfl) ?_
      refine z_id X hS hw gs1_201 (by omega) hl.1 (Nat.le_of_ble_eq_true rfl) dX1_resolve_31 (fun h21 hw => ?_)
      refine z_il X hS a1_0 hw dX1_resolve_34 (fun hw => ?_)
      refine z_iconst hx hb dX1_resolve_35 ?_
      refine z_ile (tgt := 47) hx hb (hM 0 (-2 - a2)) (⟨by decide, by decide⟩) hw dX1_resolve_36 (by decide) (fun hc hw => ?_) (fun hc hw => ?_)
      · refine lv_iload_n hx hb dX1_resolve_47 rfl (lv_at hl 2 rfl) ?_
        refine z_id X hS hw gs1_201 (by omega) hl.1 (Nat.le_of_ble_eq_true rfl) dX1_resolve_48 (fun h22 hw => ?_)
        refine lv_istore_n (lv' := [(3, .int (I3 (-2 - a2))), (0, .ref h0), (1, .int (I3 a1)), (2, .int (I3 a2))]) hx hb dX1_resolve_51 rfl hl (by decide) rfl (fun ls hl => ?_)
        refine lv_aload_n hx hb dX1_resolve_52 rfl (lv_at hl 1 rfl) ?_
        refine r_ga X hS f1_0 dX1_resolve_53 ?_
        refine lv_iload_n hx hb dX1_resolve_56 rfl (lv_at hl 0 rfl) ?_
        refine z_il X hS a1_0 hw dX1_resolve_57 (fun hw => ?_)
        refine z_iconst hx hb dX1_resolve_58 ?_
        refine z_ine (tgt := 112) hx hb (hM 0 (-2 - a2)) (⟨by decide, by decide⟩) hw dX1_resolve_59 (by decide) (fun hc hw => ?_) (fun hc hw => ?_)
        · exact m1_resolve_J112 X hM hS (lv_sub hl [1, 2, 0] rfl) r1 h22 hw
        · refine lv_aload_n hx hb dX1_resolve_62 rfl (lv_at hl 1 rfl) ?_
          refine r_ga X hS f1_8 dX1_resolve_63 ?_
          refine lv_iload_n hx hb dX1_resolve_66 rfl (lv_at hl 0 rfl) ?_
          refine z_il X hS a1_8 hw dX1_resolve_67 (fun hw => ?_)
          refine z_zeq (tgt := 112) hx hb (hM 8 (-2 - a2)) hw dX1_resolve_68 (by decide) (fun hc hw => ?_) (fun hc hw => ?_)
          · exact m1_resolve_J112 X hM hS (lv_sub hl [1, 2, 0] rfl) r1 h22 hw
          · refine lv_aload_n hx hb dX1_resolve_71 rfl (lv_at hl 1 rfl) ?_
            refine lv_iload_n hx hb dX1_resolve_72 rfl (lv_at hl 2 rfl) ?_
            refine lv_aload_n hx hb dX1_resolve_73 rfl (lv_at hl 1 rfl) ?_
            refine r_ga X hS f1_8 dX1_resolve_74 ?_
            refine lv_iload_n hx hb dX1_resolve_77 rfl (lv_at hl 0 rfl) ?_
            refine z_il X hS a1_8 hw dX1_resolve_78 (fun hw => ?_)
            refine z_iconst hx hb dX1_resolve_79 ?_
            refine z_ine (tgt := 87) hx hb (hM 8 (-2 - a2)) (⟨by decide, by decide⟩) hw dX1_resolve_80 (by decide) (fun hc hw => ?_) (fun hc hw => ?_)
            · refine z_iconst hx hb dX1_resolve_87 ?_
              exact m1_resolve_J88 X hM hS (lv_sub hl [1, 3, 0] rfl) r2 h22 r1 (⟨by decide, by decide⟩) hw
            · refine z_iconst hx hb dX1_resolve_83 ?_
              refine lv_goto (tgt := 88) hx hb dX1_resolve_84 (by decide) ?_
              exact m1_resolve_J88 X hM hS (lv_sub hl [1, 3, 0] rfl) r2 h22 r1 (⟨by decide, by decide⟩) hw
      · exact m1_resolve_J39 X hM hS (lv_sub hl [0, 1, 2] rfl) r1 r2 hw
  · refine lv_aload_n hx hb dX1_resolve_8 rfl (lv_at hl 0 rfl) ?_
    refine lv_iload_n hx hb dX1_resolve_9 rfl (lv_at hl 1 rfl) ?_
    refine z_iconst hx hb dX1_resolve_10 ?_
    refine lv_aload_n hx hb dX1_resolve_11 rfl (lv_at hl 0 rfl) ?_
    refine z_callI X hS (m1_error  hM hw) gv1_190 hy1_error rfl (by omega) (by decide) (sbs_sub rfl) hl.1 (Nat.le_of_ble_eq_true rfl) dX1_resolve_12 rfl (fun x23 V25 Z26 h24 hM27 hw P28 H locs c1 s1 hP hS => ?_)
    refine z_callV X hS (m1_settle_2 r1 (⟨by decide, by decide⟩) h24 hM27 hw) gv1_194 hy1_settle_2 rfl (by omega) (by decide) (sbs_sub rfl) hl.1 (Nat.le_of_ble_eq_true rfl) dX1_resolve_15 rfl (fun x29 V31 Z32 h30 hM33 hw P34 H locs c1 s1 hP hS => ?_)
    exact z_rv X hS hM33 hw dX1_resolve_18
theorem m1_wait_J98 {a1 : Int} {a2 : Int} {a3 : Int} {a4 : Int} {a5 : Int} {V : Mv} {Z : Le} {Q : Po} {PX : Px} (X : Cx E 0 h0 P0 kc0 ks0 S0 A p l R s m args meth c cX1_wait 7 (some .int) 3) (hM : inM V) (hS : HS E 0 h0 P0 kc0 ks0 (sbs [22, 23, 24, 25, 26, 27]) A s.heap P (toC V) Z H locs cells slots) (hl : lv_has ls 7 [(0, .ref h0), (1, .int (I3 a1)), (2, .int (I3 a2)), (3, .int (I3 a3)), (4, .int (I3 a4)), (5, .int (I3 a5))]) (r1 : inR a1) (r2 : inR a2) (r3 : inR a3) (r4 : inR a4) (r5 : inR a5) (hw : w1_wait_J98 a1 a2 a3 a4 a5 V Z Q) : W p l e R s m args below meth c H locs cells slots (MQx below (QT E 0 h0 true P0 kc0 ks0 (sbs [22, 23, 24, 25, 26, 27]) A (QL Q) (PL PX) s) s) (F0 m 98 ls []) := by
  have hx := X.2.1
  have hb := X.2.2.1
  unfold w1_wait_J98 at hw
  refine lv_aload_n hx hb dX1_wait_98 rfl (lv_at hl 0 rfl) ?_
  refine z_gi X hS f1_28 dX1_wait_99 ?_
  refine lv_istore (lv' := [(6, .int (I3 (V 28 0))), (0, .ref h0), (1, .int (I3 a1)), (2, .int (I3 a2)), (3, .int (I3 a3)), (4, .int (I3 a4)), (5, .int (I3 a5))]) hx hb dX1_wait_102 hl (by decide) rfl (fun ls hl => ?_)
  refine lv_aload_n hx hb dX1_wait_104 rfl (lv_at hl 1 rfl) ?_
  refine lv_dup hx hb dX1_wait_105 rfl ?_
  refine z_gi X hS f1_28 dX1_wait_106 ?_
  refine z_iconst hx hb dX1_wait_109 ?_
  refine z_add hx hb hw dX1_wait_110 (fun h1 hw => ?_)
  refine z_pi X hS hM f1_28 p1_28 h1 hw dX1_wait_111 (fun V2 hM3 hw H locs hS => ?_)
  refine lv_aload_n hx hb dX1_wait_114 rfl (lv_at hl 1 rfl) ?_
  refine r_ga X hS f1_22 dX1_wait_115 ?_
  refine lv_iload hx hb dX1_wait_118 (lv_at hl 0 rfl) ?_
  refine lv_iload_n hx hb dX1_wait_120 rfl (lv_at hl 2 rfl) ?_
  refine z_is X hS hM3 a1_22 r1 hw dX1_wait_121 (fun V4 hM5 hw H locs hS => ?_)
  refine lv_aload_n hx hb dX1_wait_122 rfl (lv_at hl 1 rfl) ?_
  refine r_ga X hS f1_23 dX1_wait_123 ?_
  refine lv_iload hx hb dX1_wait_126 (lv_at hl 0 rfl) ?_
  refine lv_iload_n hx hb dX1_wait_128 rfl (lv_at hl 3 rfl) ?_
  refine z_is X hS hM5 a1_23 r2 hw dX1_wait_129 (fun V6 hM7 hw H locs hS => ?_)
  refine lv_aload_n hx hb dX1_wait_130 rfl (lv_at hl 1 rfl) ?_
  refine r_ga X hS f1_24 dX1_wait_131 ?_
  refine lv_iload hx hb dX1_wait_134 (lv_at hl 0 rfl) ?_
  refine lv_iload_n hx hb dX1_wait_136 rfl (lv_at hl 4 rfl) ?_
  refine z_is X hS hM7 a1_24 r3 hw dX1_wait_137 (fun V8 hM9 hw H locs hS => ?_)
  refine lv_aload_n hx hb dX1_wait_138 rfl (lv_at hl 1 rfl) ?_
  refine r_ga X hS f1_25 dX1_wait_139 ?_
  refine lv_iload hx hb dX1_wait_142 (lv_at hl 0 rfl) ?_
  refine lv_iload hx hb dX1_wait_144 (lv_at hl 5 rfl) ?_
  refine z_is X hS hM9 a1_25 r4 hw dX1_wait_146 (fun V10 hM11 hw H locs hS => ?_)
  refine lv_aload_n hx hb dX1_wait_147 rfl (lv_at hl 1 rfl) ?_
  refine r_ga X hS f1_26 dX1_wait_148 ?_
  refine lv_iload hx hb dX1_wait_151 (lv_at hl 0 rfl) ?_
  refine lv_iload hx hb dX1_wait_153 (lv_at hl 6 rfl) ?_
  refine z_is X hS hM11 a1_26 r5 hw dX1_wait_155 (fun V12 hM13 hw H locs hS => ?_)
  refine lv_aload_n hx hb dX1_wait_156 rfl (lv_at hl 1 rfl) ?_
  refine r_ga X hS f1_27 dX1_wait_157 ?_
  refine lv_iload hx hb dX1_wait_160 (lv_at hl 0 rfl) ?_
  refine z_iconst hx hb dX1_wait_162 ?_
  refine z_is X hS hM13 a1_27 (⟨by decide, by decide⟩) hw dX1_wait_163 (fun V14 hM15 hw H locs hS => ?_)
  refine lv_iload hx hb dX1_wait_164 (lv_at hl 0 rfl) ?_
  exact z_ri X hS hM15 (hM 28 0) hw dX1_wait_166
theorem m1_wait {a1 : Int} {a2 : Int} {a3 : Int} {a4 : Int} {a5 : Int} {V : Mv} {Z : Le} {Q : Po} {PX : Px} (r1 : inR a1) (r2 : inR a2) (r3 : inR a3) (r4 : inR a4) (r5 : inR a5) (hM : inM V) (hw : w1_wait a1 a2 a3 a4 a5 V Z Q) : MT l S0 E 0 h0 yX1_wait cX1_wait 7 (some .int) 3 true (sbs [22, 23, 24, 25, 26, 27]) [.int (I3 a1), .int (I3 a2), .int (I3 a3), .int (I3 a4), .int (I3 a5)] (toC V) Z (QL Q) (PL PX) := by
  refine mt_of Gk0 (by decide) rfl (Nat.le_of_ble_eq_true rfl) ?_
  intro p e s m below meth c A P ls X hS hl
  have hl : lv_has ls 7 [(0, .ref h0), (1, .int (I3 a1)), (2, .int (I3 a2)), (3, .int (I3 a3)), (4, .int (I3 a4)), (5, .int (I3 a5))] := hl
  have hx := X.2.1
  have hb := X.2.2.1
  unfold w1_wait at hw
  refine lv_aload_n hx hb dX1_wait_0 rfl (lv_at hl 0 rfl) ?_
  refine z_gi X hS f1_28 dX1_wait_1 ?_
  refine lv_aload_n hx hb dX1_wait_4 rfl (lv_at hl 0 rfl) ?_
  refine r_ga X hS f1_22 dX1_wait_5 ?_
  refine z_len X hS a1_22 dX1_wait_8 ?_
  refine z_ine (tgt := 98) hx hb (hM 28 0) (z_lenR hS a1_22) hw dX1_wait_9 (by decide) (fun hc hw => ?_) (fun hc hw => ?_)
  · exact m1_wait_J98 X hM hS (lv_sub hl [0, 1, 2, 3, 4, 5] rfl) r1 r2 r3 r4 r5 hw
  · refine z_iconst hx hb dX1_wait_12 ?_
    refine lv_aload_n hx hb dX1_wait_13 rfl (lv_at hl 0 rfl) ?_
    refine z_gi X hS f1_28 dX1_wait_14 ?_
    refine z_mul hx hb hw dX1_wait_17 (fun h16 hw => ?_)
    refine lv_istore (lv' := [(6, .int (I3 (2 * V 28 0))), (0, .ref h0), (1, .int (I3 a1)), (2, .int (I3 a2)), (3, .int (I3 a3)), (4, .int (I3 a4)), (5, .int (I3 a5))]) hx hb dX1_wait_18 hl (by decide) rfl (fun ls hl => ?_)
    refine lv_aload_n hx hb dX1_wait_20 rfl (lv_at hl 1 rfl) ?_
    refine lv_aload_n hx hb dX1_wait_21 rfl (lv_at hl 1 rfl) ?_
    refine r_ga X hS f1_22 dX1_wait_22 ?_
    refine lv_iload hx hb dX1_wait_25 (lv_at hl 0 rfl) ?_
    refine z_grow X hS hM f1_22 a1_22 rfl rfl (by decide) hw gs1_144 (by omega) hl.1 (Nat.le_of_ble_eq_true rfl) dX1_wait_27 dX1_wait_30 (fun V17 Z18 hM19 hw P20 H locs c1 s1 hP hS => ?_)
    refine lv_aload_n hx hb dX1_wait_33 rfl (lv_at hl 1 rfl) ?_
    refine lv_aload_n hx hb dX1_wait_34 rfl (lv_at hl 1 rfl) ?_
    refine r_ga X hS f1_23 dX1_wait_35 ?_
    refine lv_iload hx hb dX1_wait_38 (lv_at hl 0 rfl) ?_
    refine z_grow X hS hM19 f1_23 a1_23 rfl rfl (by decide) hw gs1_144 (by omega) hl.1 (Nat.le_of_ble_eq_true rfl) dX1_wait_40 dX1_wait_43 (fun V21 Z22 hM23 hw P24 H locs c1 s1 hP hS => ?_)
    refine lv_aload_n hx hb dX1_wait_46 rfl (lv_at hl 1 rfl) ?_
    refine lv_aload_n hx hb dX1_wait_47 rfl (lv_at hl 1 rfl) ?_
    refine r_ga X hS f1_24 dX1_wait_48 ?_
    refine lv_iload hx hb dX1_wait_51 (lv_at hl 0 rfl) ?_
    refine z_grow X hS hM23 f1_24 a1_24 rfl rfl (by decide) hw gs1_144 (by omega) hl.1 (Nat.le_of_ble_eq_true rfl) dX1_wait_53 dX1_wait_56 (fun V25 Z26 hM27 hw P28 H locs c1 s1 hP hS => ?_)
    refine lv_aload_n hx hb dX1_wait_59 rfl (lv_at hl 1 rfl) ?_
    refine lv_aload_n hx hb dX1_wait_60 rfl (lv_at hl 1 rfl) ?_
    refine r_ga X hS f1_25 dX1_wait_61 ?_
    refine lv_iload hx hb dX1_wait_64 (lv_at hl 0 rfl) ?_
    refine z_grow X hS hM27 f1_25 a1_25 rfl rfl (by decide) hw gs1_144 (by omega) hl.1 (Nat.le_of_ble_eq_true rfl) dX1_wait_66 dX1_wait_69 (fun V29 Z30 hM31 hw P32 H locs c1 s1 hP hS => ?_)
    refine lv_aload_n hx hb dX1_wait_72 rfl (lv_at hl 1 rfl) ?_
    refine lv_aload_n hx hb dX1_wait_73 rfl (lv_at hl 1 rfl) ?_
    refine r_ga X hS f1_26 dX1_wait_74 ?_
    refine lv_iload hx hb dX1_wait_77 (lv_at hl 0 rfl) ?_
    refine z_grow X hS hM31 f1_26 a1_26 rfl rfl (by decide) hw gs1_144 (by omega) hl.1 (Nat.le_of_ble_eq_true rfl) dX1_wait_79 dX1_wait_82 (fun V33 Z34 hM35 hw P36 H locs c1 s1 hP hS => ?_)
    refine lv_aload_n hx hb dX1_wait_85 rfl (lv_at hl 1 rfl) ?_
    refine lv_aload_n hx hb dX1_wait_86 rfl (lv_at hl 1 rfl) ?_
    refine r_ga X hS f1_27 dX1_wait_87 ?_
    refine lv_iload hx hb dX1_wait_90 (lv_at hl 0 rfl) ?_
    refine z_grow X hS hM35 f1_27 a1_27 rfl rfl (by decide) hw gs1_144 (by omega) hl.1 (Nat.le_of_ble_eq_true rfl) dX1_wait_92 dX1_wait_95 (fun V37 Z38 hM39 hw P40 H locs c1 s1 hP hS => ?_)
    exact m1_wait_J98 X hM39 hS (lv_sub hl [1, 2, 3, 4, 5, 6] rfl) r1 r2 r3 r4 r5 hw
theorem m1_perform_J67 {a1 : Int} {V : Mv} {Z : Le} {Q : Po} {PX : Px} (X : Cx E 0 h0 P0 kc0 ks0 S0 A p l R s m args meth c cX1_perform 3 none 4) (hM : inM V) (hS : HS E 0 h0 P0 kc0 ks0 (sbs [29, 30, 31, 32]) A s.heap P (toC V) Z H locs cells slots) (hl : lv_has ls 3 [(0, .ref h0), (1, .int (I3 a1))]) (r1 : inR a1) (hw : w1_perform_J67 a1 V Z Q) : W p l e R s m args below meth c H locs cells slots (MQx below (QT E 0 h0 false P0 kc0 ks0 (sbs [29, 30, 31, 32]) A (QL Q) (PL PX) s) s) (F0 m 67 ls []) := by
  have hx := X.2.1
  have hb := X.2.2.1
  unfold w1_perform_J67 at hw
  refine lv_aload_n hx hb dX1_perform_67 rfl (lv_at hl 0 rfl) ?_
  refine r_ga X hS f1_6 dX1_perform_68 ?_
  refine lv_iload_n hx hb dX1_perform_71 rfl (lv_at hl 1 rfl) ?_
  refine z_iconst hx hb dX1_perform_72 ?_
  refine z_zs X hS hM a1_6 (⟨by decide, by decide⟩) hw dX1_perform_73 (fun V1 hM2 hw H locs hS => ?_)
  exact z_rv X hS hM2 hw dX1_perform_74
theorem m1_perform_J40 {a1 : Int} {a2 : Int} {V : Mv} {Z : Le} {Q : Po} {PX : Px} (X : Cx E 0 h0 P0 kc0 ks0 S0 A p l R s m args meth c cX1_perform 3 none 4) (hM : inM V) (hS : HS E 0 h0 P0 kc0 ks0 (sbs [29, 30, 31, 32]) A s.heap P (toC V) Z H locs cells slots) (hl : lv_has ls 3 [(0, .ref h0), (1, .int (I3 a1)), (2, .int (I3 a2))]) (r1 : inR a1) (r2 : inR a2) (hw : w1_perform_J40 a1 a2 V Z Q) : W p l e R s m args below meth c H locs cells slots (MQx below (QT E 0 h0 false P0 kc0 ks0 (sbs [29, 30, 31, 32]) A (QL Q) (PL PX) s) s) (F0 m 40 ls []) := by
  have hx := X.2.1
  have hb := X.2.2.1
  unfold w1_perform_J40 at hw
  refine lv_aload_n hx hb dX1_perform_40 rfl (lv_at hl 0 rfl) ?_
  refine r_ga X hS f1_4 dX1_perform_41 ?_
  refine lv_iload_n hx hb dX1_perform_44 rfl (lv_at hl 1 rfl) ?_
  refine lv_iload_n hx hb dX1_perform_45 rfl (lv_at hl 2 rfl) ?_
  refine z_is X hS hM a1_4 r2 hw dX1_perform_46 (fun V3 hM4 hw H locs hS => ?_)
  refine lv_goto (tgt := 67) hx hb dX1_perform_47 (by decide) ?_
  exact m1_perform_J67 X hM4 hS (lv_sub hl [0, 1] rfl) r1 hw
theorem m1_perform {a1 : Int} {a2 : Int} {V : Mv} {Z : Le} {Q : Po} {PX : Px} (r1 : inR a1) (r2 : inR a2) (hM : inM V) (hw : w1_perform a1 a2 V Z Q) : MT l S0 E 0 h0 yX1_perform cX1_perform 3 none 4 false (sbs [29, 30, 31, 32]) [.int (I3 a1), .int (I3 a2)] (toC V) Z (QL Q) (PL PX) := by
  refine mt_of Gk0 (by decide) rfl (Nat.le_of_ble_eq_true rfl) ?_
  intro p e s m below meth c A P ls X hS hl
  have hl : lv_has ls 3 [(0, .ref h0), (1, .int (I3 a1)), (2, .int (I3 a2))] := hl
  have hx := X.2.1
  have hb := X.2.2.1
  unfold w1_perform at hw
  refine lv_aload_n hx hb dX1_perform_0 rfl (lv_at hl 0 rfl) ?_
  refine r_ga X hS f1_1 dX1_perform_1 ?_
  refine lv_iload_n hx hb dX1_perform_4 rfl (lv_at hl 1 rfl) ?_
  refine z_il X hS a1_1 hw dX1_perform_5 (fun hw => ?_)
  refine z_zne (tgt := 50) hx hb (hM 1 a1) hw dX1_perform_6 (by decide) (fun hc hw => ?_) (fun hc hw => ?_)
  · refine lv_aload_n hx hb dX1_perform_50 rfl (lv_at hl 0 rfl) ?_
    refine lv_iload_n hx hb dX1_perform_51 rfl (lv_at hl 2 rfl) ?_
    refine lv_aload_n hx hb dX1_perform_52 rfl (lv_at hl 0 rfl) ?_
    refine r_ga X hS f1_1 dX1_perform_53 ?_
    refine lv_iload_n hx hb dX1_perform_56 rfl (lv_at hl 1 rfl) ?_
    refine z_il X hS a1_1 hw dX1_perform_57 (fun hw => ?_)
    refine lv_aload_n hx hb dX1_perform_58 rfl (lv_at hl 0 rfl) ?_
    refine r_ga X hS f1_2 dX1_perform_59 ?_
    refine lv_iload_n hx hb dX1_perform_62 rfl (lv_at hl 1 rfl) ?_
    refine z_il X hS a1_2 hw dX1_perform_63 (fun hw => ?_)
    refine z_callV X hS (m1_enqueue r2 (hM 1 a1) (hM 2 a1) hM hw) gv1_186 hy1_enqueue rfl (by omega) (by decide) (sbs_sub rfl) hl.1 (Nat.le_of_ble_eq_true rfl) dX1_perform_64 rfl (fun x5 V7 Z8 h6 hM9 hw P10 H locs c1 s1 hP hS => ?_)
    exact m1_perform_J67 X hM9 hS (lv_sub hl [0, 1] rfl) r1 hw
  · refine lv_aload_n hx hb dX1_perform_9 rfl (lv_at hl 0 rfl) ?_
    refine r_ga X hS f1_3 dX1_perform_10 ?_
    refine lv_iload_n hx hb dX1_perform_13 rfl (lv_at hl 1 rfl) ?_
    refine z_il X hS a1_3 hw dX1_perform_14 (fun hw => ?_)
    refine z_zne (tgt := 28) hx hb (hM 3 a1) hw dX1_perform_15 (by decide) (fun hc hw => ?_) (fun hc hw => ?_)
    · refine lv_aload_n hx hb dX1_perform_28 rfl (lv_at hl 0 rfl) ?_
      refine r_ga X hS f1_27 dX1_perform_29 ?_
      refine lv_aload_n hx hb dX1_perform_32 rfl (lv_at hl 0 rfl) ?_
      refine r_ga X hS f1_4 dX1_perform_33 ?_
      refine lv_iload_n hx hb dX1_perform_36 rfl (lv_at hl 1 rfl) ?_
      refine z_il X hS a1_4 hw dX1_perform_37 (fun hw => ?_)
      refine lv_iload_n hx hb dX1_perform_38 rfl (lv_at hl 2 rfl) ?_
      refine z_is X hS hM a1_27 r2 hw dX1_perform_39 (fun V11 hM12 hw H locs hS => ?_)
      exact m1_perform_J40 X hM12 hS (lv_sub hl [0, 1, 2] rfl) r1 r2 hw
    · refine lv_aload_n hx hb dX1_perform_18 rfl (lv_at hl 0 rfl) ?_
      refine r_ga X hS f1_3 dX1_perform_19 ?_
      refine lv_iload_n hx hb dX1_perform_22 rfl (lv_at hl 1 rfl) ?_
      refine lv_iload_n hx hb dX1_perform_23 rfl (lv_at hl 2 rfl) ?_
      refine z_is X hS hM a1_3 r2 hw dX1_perform_24 (fun V13 hM14 hw H locs hS => ?_)
      refine lv_goto (tgt := 40) hx hb dX1_perform_25 (by decide) ?_
      exact m1_perform_J40 X hM14 hS (lv_sub hl [0, 1, 2] rfl) r1 r2 hw
theorem m1_then {a1 : Int} {a2 : Int} {a3 : Int} {V : Mv} {Z : Le} {Q : Po} {PX : Px} (r1 : inR a1) (r2 : inR a2) (r3 : inR a3) (hM : inM V) (hw : w1_then a1 a2 a3 V Z Q) : MT l S0 E 0 h0 yX1_then cX1_then 6 (some .int) 5 true (sbs [15, 16, 17, 18, 20, 22, 23, 24, 25, 26, 27, 29, 30, 31, 32]) [.int (I3 a1), .int (I3 a2), .int (I3 a3)] (toC V) Z (QL Q) (PL PX) := by
  refine mt_of Gk0 (by decide) rfl (Nat.le_of_ble_eq_true rfl) ?_
  intro p e s m below meth c A P ls X hS hl
  have hl : lv_has ls 6 [(0, .ref h0), (1, .int (I3 a1)), (2, .int (I3 a2)), (3, .int (I3 a3))] := hl
  have hx := X.2.1
  have hb := X.2.2.1
  unfold w1_then at hw
  refine lv_aload_n hx hb dX1_then_0 rfl (lv_at hl 0 rfl) ?_
  refine z_callI X hS (m1_newPromise  hM hw) gv1_204 hy1_newPromise rfl (by omega) (by decide) (sbs_sub rfl) hl.1 (Nat.le_of_ble_eq_true rfl) dX1_then_1 rfl (fun x1 V3 Z4 h2 hM5 hw P6 H locs c1 s1 hP hS => ?_)
  refine lv_istore (lv' := [(4, .int (I3 x1)), (0, .ref h0), (1, .int (I3 a1)), (2, .int (I3 a2)), (3, .int (I3 a3))]) hx hb dX1_then_4 hl (by decide) rfl (fun ls hl => ?_)
  refine lv_aload_n hx hb dX1_then_6 rfl (lv_at hl 1 rfl) ?_
  refine lv_iload hx hb dX1_then_7 (lv_at hl 0 rfl) ?_
  refine z_callI X hS (m1_functionsOf h2 hM5 hw) gv1_207 hy1_functionsOf rfl (by omega) (by decide) (sbs_sub rfl) hl.1 (Nat.le_of_ble_eq_true rfl) dX1_then_9 rfl (fun x7 V9 Z10 h8 hM11 hw P12 H locs c1 s1 hP hS => ?_)
  refine lv_istore (lv' := [(5, .int (I3 x7)), (4, .int (I3 x1)), (0, .ref h0), (1, .int (I3 a1)), (2, .int (I3 a2)), (3, .int (I3 a3))]) hx hb dX1_then_12 hl (by decide) rfl (fun ls hl => ?_)
  refine lv_aload_n hx hb dX1_then_14 rfl (lv_at hl 2 rfl) ?_
  refine lv_iload_n hx hb dX1_then_15 rfl (lv_at hl 3 rfl) ?_
  refine lv_aload_n hx hb dX1_then_16 rfl (lv_at hl 2 rfl) ?_
  refine lv_iload_n hx hb dX1_then_17 rfl (lv_at hl 4 rfl) ?_
  refine lv_iload_n hx hb dX1_then_18 rfl (lv_at hl 5 rfl) ?_
  refine lv_iload hx hb dX1_then_19 (lv_at hl 0 rfl) ?_
  refine lv_iload hx hb dX1_then_21 (lv_at hl 0 rfl) ?_
  refine z_iconst hx hb dX1_then_23 ?_
  refine z_add hx hb hw dX1_then_24 (fun h13 hw => ?_)
  refine z_iconst hx hb dX1_then_25 ?_
  refine z_callI X hS (m1_wait r2 r3 h8 h13 (⟨by decide, by decide⟩) hM11 hw) gv1_210 hy1_wait rfl (by omega) (by decide) (sbs_sub rfl) hl.1 (Nat.le_of_ble_eq_true rfl) dX1_then_26 rfl (fun x14 V16 Z17 h15 hM18 hw P19 H locs c1 s1 hP hS => ?_)
  refine z_callV X hS (m1_perform r1 h15 hM18 hw) gv1_214 hy1_perform rfl (by omega) (by decide) (sbs_sub rfl) hl.1 (Nat.le_of_ble_eq_true rfl) dX1_then_29 rfl (fun x20 V22 Z23 h21 hM24 hw P25 H locs c1 s1 hP hS => ?_)
  refine lv_iload hx hb dX1_then_32 (lv_at hl 1 rfl) ?_
  exact z_ri X hS hM24 h2 hw dX1_then_34
theorem m1_manyError {a1 : Int} {V : Mv} {Z : Le} {Q : Po} {PX : Px} (r1 : inR a1) (hM : inM V) (hw : w1_manyError a1 V Z Q) : MT l S0 E 0 h0 yX1_manyError cX1_manyError 3 (some .int) 3 true (sbs []) [.int (I3 a1)] (toC V) Z (QL Q) (PL PX) := by
  refine mt_of Gk0 (by decide) rfl (Nat.le_of_ble_eq_true rfl) ?_
  intro p e s m below meth c A P ls X hS hl
  have hl : lv_has ls 3 [(0, .ref h0), (1, .int (I3 a1))] := hl
  have hx := X.2.1
  have hb := X.2.2.1
  unfold w1_manyError at hw
  refine lv_aload_n hx hb dX1_manyError_0 rfl (lv_at hl 0 rfl) ?_
  refine z_iconst hx hb dX1_manyError_1 ?_
  refine z_callI X hS (m1_object (⟨by decide, by decide⟩) hM hw) gv1_156 hy1_object rfl (by omega) (by decide) (sbs_sub rfl) hl.1 (Nat.le_of_ble_eq_true rfl) dX1_manyError_2 rfl (fun x1 V3 Z4 h2 hM5 hw P6 H locs c1 s1 hP hS => ?_)
  refine lv_istore_n (lv' := [(2, .int (I3 x1)), (0, .ref h0), (1, .int (I3 a1))]) hx hb dX1_manyError_5 rfl hl (by decide) rfl (fun ls hl => ?_)
  refine lv_aload_n hx hb dX1_manyError_6 rfl (lv_at hl 1 rfl) ?_
  refine r_ga X hS f1_1 dX1_manyError_7 ?_
  refine lv_iload_n hx hb dX1_manyError_10 rfl (lv_at hl 0 rfl) ?_
  refine lv_aload_n hx hb dX1_manyError_11 rfl (lv_at hl 1 rfl) ?_
  refine z_iconst hx hb dX1_manyError_12 ?_
  refine lv_iload_n hx hb dX1_manyError_13 rfl (lv_at hl 2 rfl) ?_
  refine z_iconst hx hb dX1_manyError_14 ?_
  refine z_add hx hb hw dX1_manyError_15 (fun h7 hw => ?_)
  refine lv_aload_n hx hb dX1_manyError_16 rfl (lv_at hl 1 rfl) ?_
  refine r_ga X hS f1_38 dX1_manyError_17 ?_
  refine lv_iload_n hx hb dX1_manyError_20 rfl (lv_at hl 2 rfl) ?_
  refine z_iconst hx hb dX1_manyError_21 ?_
  refine z_add hx hb hw dX1_manyError_22 (fun h8 hw => ?_)
  refine z_il X hS a1_38 hw dX1_manyError_23 (fun hw => ?_)
  refine z_callI X hS (m1_holder (⟨by decide, by decide⟩) h7 (hM5 38 (a1 + 1)) hM5 hw) gv1_250 hy1_holder rfl (by omega) (by decide) (sbs_sub rfl) hl.1 (Nat.le_of_ble_eq_true rfl) dX1_manyError_24 rfl (fun x9 V11 Z12 h10 hM13 hw P14 H locs c1 s1 hP hS => ?_)
  rw [← hP 1 rfl]
  refine z_id X hS hw gs1_201 (by omega) hl.1 (Nat.le_of_ble_eq_true rfl) dX1_manyError_27 (fun h15 hw => ?_)
  refine z_is X hS hM13 a1_1 h15 hw dX1_manyError_30 (fun V16 hM17 hw H locs hS => ?_)
  refine lv_iload_n hx hb dX1_manyError_31 rfl (lv_at hl 0 rfl) ?_
  refine z_vo X hS hw gs1_160 (by omega) hl.1 (Nat.le_of_ble_eq_true rfl) dX1_manyError_32 (fun h18 hw => ?_)
  exact z_ri X hS hM17 h18 hw dX1_manyError_35
end WALK
