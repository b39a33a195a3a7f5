set_option maxRecDepth 100000
theorem dX1_thenable_0 : decode cX1_thenable 0 = .ok (.iload_n 1, 1) := by decide +kernel
theorem dX1_thenable_1 : decode cX1_thenable 1 = .ok (.ifCond .lt 49, 3) := by decide +kernel
theorem dX1_thenable_4 : decode cX1_thenable 4 = .ok (.iload_n 1, 1) := by decide +kernel
theorem dX1_thenable_5 : decode cX1_thenable 5 = .ok (.iconst 2, 1) := by decide +kernel
theorem dX1_thenable_6 : decode cX1_thenable 6 = .ok (.if_icmp .gt 44, 3) := by decide +kernel
theorem dX1_thenable_9 : decode cX1_thenable 9 = .ok (.iload_n 2, 1) := by decide +kernel
theorem dX1_thenable_10 : decode cX1_thenable 10 = .ok (.ifCond .lt 40, 3) := by decide +kernel
theorem dX1_thenable_13 : decode cX1_thenable 13 = .ok (.iload_n 2, 1) := by decide +kernel
theorem dX1_thenable_14 : decode cX1_thenable 14 = .ok (.iconst 4, 1) := by decide +kernel
theorem dX1_thenable_15 : decode cX1_thenable 15 = .ok (.if_icmp .gt 35, 3) := by decide +kernel
theorem dX1_thenable_18 : decode cX1_thenable 18 = .ok (.iload 4, 2) := by decide +kernel
theorem dX1_thenable_20 : decode cX1_thenable 20 = .ok (.ifCond .lt 30, 3) := by decide +kernel
theorem dX1_thenable_23 : decode cX1_thenable 23 = .ok (.iload 4, 2) := by decide +kernel
theorem dX1_thenable_25 : decode cX1_thenable 25 = .ok (.iconst 4, 1) := by decide +kernel
theorem dX1_thenable_26 : decode cX1_thenable 26 = .ok (.if_icmp .gt 24, 3) := by decide +kernel
theorem dX1_thenable_29 : decode cX1_thenable 29 = .ok (.aload_n 0, 1) := by decide +kernel
theorem dX1_thenable_30 : decode cX1_thenable 30 = .ok (.iload_n 3, 1) := by decide +kernel
theorem dX1_thenable_31 : decode cX1_thenable 31 = .ok (.invokevirtual 286, 3) := by decide +kernel
theorem dX1_thenable_34 : decode cX1_thenable 34 = .ok (.ifCond .eq 16, 3) := by decide +kernel
theorem dX1_thenable_37 : decode cX1_thenable 37 = .ok (.aload_n 0, 1) := by decide +kernel
theorem dX1_thenable_38 : decode cX1_thenable 38 = .ok (.iload 5, 2) := by decide +kernel
theorem dX1_thenable_40 : decode cX1_thenable 40 = .ok (.invokevirtual 286, 3) := by decide +kernel
theorem dX1_thenable_43 : decode cX1_thenable 43 = .ok (.ifCond .eq 7, 3) := by decide +kernel
theorem dX1_thenable_46 : decode cX1_thenable 46 = .ok (.iconst 1, 1) := by decide +kernel
theorem dX1_thenable_47 : decode cX1_thenable 47 = .ok (.goto 4, 3) := by decide +kernel
theorem dX1_thenable_50 : decode cX1_thenable 50 = .ok (.iconst 0, 1) := by decide +kernel
theorem dX1_thenable_51 : decode cX1_thenable 51 = .ok (.invokestatic 275, 3) := by decide +kernel
theorem dX1_thenable_54 : decode cX1_thenable 54 = .ok (.aload_n 0, 1) := by decide +kernel
theorem dX1_thenable_55 : decode cX1_thenable 55 = .ok (.bipush 8, 2) := by decide +kernel
theorem dX1_thenable_57 : decode cX1_thenable 57 = .ok (.invokevirtual 282, 3) := by decide +kernel
theorem dX1_thenable_60 : decode cX1_thenable 60 = .ok (.aload_n 0, 1) := by decide +kernel
theorem dX1_thenable_61 : decode cX1_thenable 61 = .ok (.iconst 1, 1) := by decide +kernel
theorem dX1_thenable_62 : decode cX1_thenable 62 = .ok (.invokevirtual 156, 3) := by decide +kernel
theorem dX1_thenable_65 : decode cX1_thenable 65 = .ok (.istore 6, 2) := by decide +kernel
theorem dX1_thenable_67 : decode cX1_thenable 67 = .ok (.aload_n 0, 1) := by decide +kernel
theorem dX1_thenable_68 : decode cX1_thenable 68 = .ok (.getfield 32, 3) := by decide +kernel
theorem dX1_thenable_71 : decode cX1_thenable 71 = .ok (.iload 6, 2) := by decide +kernel
theorem dX1_thenable_73 : decode cX1_thenable 73 = .ok (.iload_n 1, 1) := by decide +kernel
theorem dX1_thenable_74 : decode cX1_thenable 74 = .ok (.iastore, 1) := by decide +kernel
theorem dX1_thenable_75 : decode cX1_thenable 75 = .ok (.aload_n 0, 1) := by decide +kernel
theorem dX1_thenable_76 : decode cX1_thenable 76 = .ok (.getfield 35, 3) := by decide +kernel
theorem dX1_thenable_79 : decode cX1_thenable 79 = .ok (.iload 6, 2) := by decide +kernel
theorem dX1_thenable_81 : decode cX1_thenable 81 = .ok (.iload_n 2, 1) := by decide +kernel
theorem dX1_thenable_82 : decode cX1_thenable 82 = .ok (.iastore, 1) := by decide +kernel
theorem dX1_thenable_83 : decode cX1_thenable 83 = .ok (.aload_n 0, 1) := by decide +kernel
theorem dX1_thenable_84 : decode cX1_thenable 84 = .ok (.getfield 38, 3) := by decide +kernel
theorem dX1_thenable_87 : decode cX1_thenable 87 = .ok (.iload 6, 2) := by decide +kernel
theorem dX1_thenable_89 : decode cX1_thenable 89 = .ok (.iload_n 3, 1) := by decide +kernel
theorem dX1_thenable_90 : decode cX1_thenable 90 = .ok (.iastore, 1) := by decide +kernel
theorem dX1_thenable_91 : decode cX1_thenable 91 = .ok (.aload_n 0, 1) := by decide +kernel
theorem dX1_thenable_92 : decode cX1_thenable 92 = .ok (.getfield 41, 3) := by decide +kernel
theorem dX1_thenable_95 : decode cX1_thenable 95 = .ok (.iload 6, 2) := by decide +kernel
theorem dX1_thenable_97 : decode cX1_thenable 97 = .ok (.iload 4, 2) := by decide +kernel
theorem dX1_thenable_99 : decode cX1_thenable 99 = .ok (.iastore, 1) := by decide +kernel
theorem dX1_thenable_100 : decode cX1_thenable 100 = .ok (.aload_n 0, 1) := by decide +kernel
theorem dX1_thenable_101 : decode cX1_thenable 101 = .ok (.getfield 44, 3) := by decide +kernel
theorem dX1_thenable_104 : decode cX1_thenable 104 = .ok (.iload 6, 2) := by decide +kernel
theorem dX1_thenable_106 : decode cX1_thenable 106 = .ok (.iload 5, 2) := by decide +kernel
theorem dX1_thenable_108 : decode cX1_thenable 108 = .ok (.iastore, 1) := by decide +kernel
theorem dX1_thenable_109 : decode cX1_thenable 109 = .ok (.aload_n 0, 1) := by decide +kernel
theorem dX1_thenable_110 : decode cX1_thenable 110 = .ok (.getfield 47, 3) := by decide +kernel
theorem dX1_thenable_113 : decode cX1_thenable 113 = .ok (.iload 6, 2) := by decide +kernel
theorem dX1_thenable_115 : decode cX1_thenable 115 = .ok (.iconst (-1), 1) := by decide +kernel
theorem dX1_thenable_116 : decode cX1_thenable 116 = .ok (.iastore, 1) := by decide +kernel
theorem dX1_thenable_117 : decode cX1_thenable 117 = .ok (.iload 6, 2) := by decide +kernel
theorem dX1_thenable_119 : decode cX1_thenable 119 = .ok (.invokestatic 160, 3) := by decide +kernel
theorem dX1_thenable_122 : decode cX1_thenable 122 = .ok (.ireturn, 1) := by decide +kernel
theorem dX1_settle_0 : decode cX1_settle 0 = .ok (.aload_n 0, 1) := by decide +kernel
theorem dX1_settle_1 : decode cX1_settle 1 = .ok (.iload_n 3, 1) := by decide +kernel
theorem dX1_settle_2 : decode cX1_settle 2 = .ok (.invokevirtual 286, 3) := by decide +kernel
theorem dX1_settle_5 : decode cX1_settle 5 = .ok (.invokestatic 275, 3) := by decide +kernel
theorem dX1_settle_8 : decode cX1_settle 8 = .ok (.aload_n 0, 1) := by decide +kernel
theorem dX1_settle_9 : decode cX1_settle 9 = .ok (.iload_n 1, 1) := by decide +kernel
theorem dX1_settle_10 : decode cX1_settle 10 = .ok (.invokevirtual 289, 3) := by decide +kernel
theorem dX1_settle_13 : decode cX1_settle 13 = .ok (.istore 4, 2) := by decide +kernel
theorem dX1_settle_15 : decode cX1_settle 15 = .ok (.aload_n 0, 1) := by decide +kernel
theorem dX1_settle_16 : decode cX1_settle 16 = .ok (.getfield 25, 3) := by decide +kernel
theorem dX1_settle_19 : decode cX1_settle 19 = .ok (.iload 4, 2) := by decide +kernel
theorem dX1_settle_21 : decode cX1_settle 21 = .ok (.iaload, 1) := by decide +kernel
theorem dX1_settle_22 : decode cX1_settle 22 = .ok (.ifCond .lt 7, 3) := by decide +kernel
theorem dX1_settle_25 : decode cX1_settle 25 = .ok (.iconst 1, 1) := by decide +kernel
theorem dX1_settle_26 : decode cX1_settle 26 = .ok (.goto 4, 3) := by decide +kernel
theorem dX1_settle_29 : decode cX1_settle 29 = .ok (.iconst 0, 1) := by decide +kernel
theorem dX1_settle_30 : decode cX1_settle 30 = .ok (.invokestatic 275, 3) := by decide +kernel
theorem dX1_settle_33 : decode cX1_settle 33 = .ok (.aload_n 0, 1) := by decide +kernel
theorem dX1_settle_34 : decode cX1_settle 34 = .ok (.bipush 8, 2) := by decide +kernel
theorem dX1_settle_36 : decode cX1_settle 36 = .ok (.invokevirtual 282, 3) := by decide +kernel
theorem dX1_settle_39 : decode cX1_settle 39 = .ok (.aload_n 0, 1) := by decide +kernel
theorem dX1_settle_40 : decode cX1_settle 40 = .ok (.getfield 25, 3) := by decide +kernel
theorem dX1_settle_43 : decode cX1_settle 43 = .ok (.iload 4, 2) := by decide +kernel
theorem dX1_settle_45 : decode cX1_settle 45 = .ok (.iaload, 1) := by decide +kernel
theorem dX1_settle_46 : decode cX1_settle 46 = .ok (.iload_n 2, 1) := by decide +kernel
theorem dX1_settle_47 : decode cX1_settle 47 = .ok (.ifCond .eq 7, 3) := by decide +kernel
theorem dX1_settle_50 : decode cX1_settle 50 = .ok (.iconst 1, 1) := by decide +kernel
theorem dX1_settle_51 : decode cX1_settle 51 = .ok (.goto 4, 3) := by decide +kernel
theorem dX1_settle_54 : decode cX1_settle 54 = .ok (.iconst 0, 1) := by decide +kernel
theorem dX1_settle_55 : decode cX1_settle 55 = .ok (.iadd, 1) := by decide +kernel
theorem dX1_settle_56 : decode cX1_settle 56 = .ok (.istore 5, 2) := by decide +kernel
theorem dX1_settle_58 : decode cX1_settle 58 = .ok (.aload_n 0, 1) := by decide +kernel
theorem dX1_settle_59 : decode cX1_settle 59 = .ok (.getfield 65, 3) := by decide +kernel
theorem dX1_settle_62 : decode cX1_settle 62 = .ok (.aload_n 0, 1) := by decide +kernel
theorem dX1_settle_63 : decode cX1_settle 63 = .ok (.getfield 59, 3) := by decide +kernel
theorem dX1_settle_66 : decode cX1_settle 66 = .ok (.iload 5, 2) := by decide +kernel
theorem dX1_settle_68 : decode cX1_settle 68 = .ok (.iaload, 1) := by decide +kernel
theorem dX1_settle_69 : decode cX1_settle 69 = .ok (.iaload, 1) := by decide +kernel
theorem dX1_settle_70 : decode cX1_settle 70 = .ok (.ifCond .ne 7, 3) := by decide +kernel
theorem dX1_settle_73 : decode cX1_settle 73 = .ok (.iconst 1, 1) := by decide +kernel
theorem dX1_settle_74 : decode cX1_settle 74 = .ok (.goto 4, 3) := by decide +kernel
theorem dX1_settle_77 : decode cX1_settle 77 = .ok (.iconst 0, 1) := by decide +kernel
theorem dX1_settle_78 : decode cX1_settle 78 = .ok (.istore 6, 2) := by decide +kernel
theorem dX1_settle_80 : decode cX1_settle 80 = .ok (.aload_n 0, 1) := by decide +kernel
theorem dX1_settle_81 : decode cX1_settle 81 = .ok (.iload 5, 2) := by decide +kernel
theorem dX1_settle_83 : decode cX1_settle 83 = .ok (.iload_n 3, 1) := by decide +kernel
theorem dX1_settle_84 : decode cX1_settle 84 = .ok (.invokevirtual 218, 3) := by decide +kernel
theorem dX1_settle_87 : decode cX1_settle 87 = .ok (.pop, 1) := by decide +kernel
theorem dX1_settle_88 : decode cX1_settle 88 = .ok (.iload 6, 2) := by decide +kernel
theorem dX1_settle_90 : decode cX1_settle 90 = .ok (.ireturn, 1) := by decide +kernel
theorem dX1_later_0 : decode cX1_later 0 = .ok (.aload_n 0, 1) := by decide +kernel
theorem dX1_later_1 : decode cX1_later 1 = .ok (.iload_n 3, 1) := by decide +kernel
theorem dX1_later_2 : decode cX1_later 2 = .ok (.invokevirtual 286, 3) := by decide +kernel
theorem dX1_later_5 : decode cX1_later 5 = .ok (.ifCond .eq 38, 3) := by decide +kernel
theorem dX1_later_8 : decode cX1_later 8 = .ok (.iload_n 1, 1) := by decide +kernel
theorem dX1_later_9 : decode cX1_later 9 = .ok (.invokestatic 197, 3) := by decide +kernel
theorem dX1_later_12 : decode cX1_later 12 = .ok (.ifCond .eq 31, 3) := by decide +kernel
theorem dX1_later_15 : decode cX1_later 15 = .ok (.iload_n 1, 1) := by decide +kernel
theorem dX1_later_16 : decode cX1_later 16 = .ok (.invokestatic 201, 3) := by decide +kernel
theorem dX1_later_19 : decode cX1_later 19 = .ok (.aload_n 0, 1) := by decide +kernel
theorem dX1_later_20 : decode cX1_later 20 = .ok (.getfield 138, 3) := by decide +kernel
theorem dX1_later_23 : decode cX1_later 23 = .ok (.if_icmp .ge 20, 3) := by decide +kernel
theorem dX1_later_26 : decode cX1_later 26 = .ok (.aload_n 0, 1) := by decide +kernel
theorem dX1_later_27 : decode cX1_later 27 = .ok (.getfield 9, 3) := by decide +kernel
theorem dX1_later_30 : decode cX1_later 30 = .ok (.iload_n 1, 1) := by decide +kernel
theorem dX1_later_31 : decode cX1_later 31 = .ok (.invokestatic 201, 3) := by decide +kernel
theorem dX1_later_34 : decode cX1_later 34 = .ok (.iaload, 1) := by decide +kernel
theorem dX1_later_35 : decode cX1_later 35 = .ok (.iconst 1, 1) := by decide +kernel
theorem dX1_later_36 : decode cX1_later 36 = .ok (.if_icmp .ne 7, 3) := by decide +kernel
theorem dX1_later_39 : decode cX1_later 39 = .ok (.iconst 1, 1) := by decide +kernel
theorem dX1_later_40 : decode cX1_later 40 = .ok (.goto 4, 3) := by decide +kernel
theorem dX1_later_43 : decode cX1_later 43 = .ok (.iconst 0, 1) := by decide +kernel
theorem dX1_later_44 : decode cX1_later 44 = .ok (.invokestatic 275, 3) := by decide +kernel
theorem dX1_later_47 : decode cX1_later 47 = .ok (.iload_n 1, 1) := by decide +kernel
theorem dX1_later_48 : decode cX1_later 48 = .ok (.invokestatic 201, 3) := by decide +kernel
theorem dX1_later_51 : decode cX1_later 51 = .ok (.istore 4, 2) := by decide +kernel
theorem dX1_later_53 : decode cX1_later 53 = .ok (.aload_n 0, 1) := by decide +kernel
theorem dX1_later_54 : decode cX1_later 54 = .ok (.bipush 8, 2) := by decide +kernel
theorem dX1_later_56 : decode cX1_later 56 = .ok (.invokevirtual 282, 3) := by decide +kernel
theorem dX1_later_59 : decode cX1_later 59 = .ok (.aload_n 0, 1) := by decide +kernel
theorem dX1_later_60 : decode cX1_later 60 = .ok (.getfield 47, 3) := by decide +kernel
theorem dX1_later_63 : decode cX1_later 63 = .ok (.iload 4, 2) := by decide +kernel
theorem dX1_later_65 : decode cX1_later 65 = .ok (.iaload, 1) := by decide +kernel
theorem dX1_later_66 : decode cX1_later 66 = .ok (.ifCond .ge 5, 3) := by decide +kernel
theorem dX1_later_69 : decode cX1_later 69 = .ok (.iconst (-1), 1) := by decide +kernel
theorem dX1_later_70 : decode cX1_later 70 = .ok (.ireturn, 1) := by decide +kernel
theorem dX1_later_71 : decode cX1_later 71 = .ok (.iload_n 2, 1) := by decide +kernel
theorem dX1_later_72 : decode cX1_later 72 = .ok (.ifCond .eq 13, 3) := by decide +kernel
theorem dX1_later_75 : decode cX1_later 75 = .ok (.aload_n 0, 1) := by decide +kernel
theorem dX1_later_76 : decode cX1_later 76 = .ok (.getfield 50, 3) := by decide +kernel
theorem dX1_later_79 : decode cX1_later 79 = .ok (.iload 4, 2) := by decide +kernel
theorem dX1_later_81 : decode cX1_later 81 = .ok (.iaload, 1) := by decide +kernel
theorem dX1_later_82 : decode cX1_later 82 = .ok (.goto 10, 3) := by decide +kernel
theorem dX1_later_85 : decode cX1_later 85 = .ok (.aload_n 0, 1) := by decide +kernel
theorem dX1_later_86 : decode cX1_later 86 = .ok (.getfield 47, 3) := by decide +kernel
theorem dX1_later_89 : decode cX1_later 89 = .ok (.iload 4, 2) := by decide +kernel
theorem dX1_later_91 : decode cX1_later 91 = .ok (.iaload, 1) := by decide +kernel
theorem dX1_later_92 : decode cX1_later 92 = .ok (.istore 5, 2) := by decide +kernel
theorem dX1_later_94 : decode cX1_later 94 = .ok (.aload_n 0, 1) := by decide +kernel
theorem dX1_later_95 : decode cX1_later 95 = .ok (.getfield 53, 3) := by decide +kernel
theorem dX1_later_98 : decode cX1_later 98 = .ok (.iload 5, 2) := by decide +kernel
theorem dX1_later_100 : decode cX1_later 100 = .ok (.iaload, 1) := by decide +kernel
theorem dX1_later_101 : decode cX1_later 101 = .ok (.iconst 1, 1) := by decide +kernel
theorem dX1_later_102 : decode cX1_later 102 = .ok (.if_icmp .eq 14, 3) := by decide +kernel
theorem dX1_later_105 : decode cX1_later 105 = .ok (.aload_n 0, 1) := by decide +kernel
theorem dX1_later_106 : decode cX1_later 106 = .ok (.getfield 53, 3) := by decide +kernel
theorem dX1_later_109 : decode cX1_later 109 = .ok (.iload 5, 2) := by decide +kernel
theorem dX1_later_111 : decode cX1_later 111 = .ok (.iaload, 1) := by decide +kernel
theorem dX1_later_112 : decode cX1_later 112 = .ok (.iconst 2, 1) := by decide +kernel
theorem dX1_later_113 : decode cX1_later 113 = .ok (.if_icmp .ne 13, 3) := by decide +kernel
theorem dX1_later_116 : decode cX1_later 116 = .ok (.aload_n 0, 1) := by decide +kernel
theorem dX1_later_117 : decode cX1_later 117 = .ok (.getfield 59, 3) := by decide +kernel
theorem dX1_later_120 : decode cX1_later 120 = .ok (.iload 5, 2) := by decide +kernel
theorem dX1_later_122 : decode cX1_later 122 = .ok (.iaload, 1) := by decide +kernel
theorem dX1_later_123 : decode cX1_later 123 = .ok (.goto 10, 3) := by decide +kernel
theorem dX1_later_126 : decode cX1_later 126 = .ok (.aload_n 0, 1) := by decide +kernel
theorem dX1_later_127 : decode cX1_later 127 = .ok (.getfield 62, 3) := by decide +kernel
theorem dX1_later_130 : decode cX1_later 130 = .ok (.iload 5, 2) := by decide +kernel
theorem dX1_later_132 : decode cX1_later 132 = .ok (.iaload, 1) := by decide +kernel
theorem dX1_later_133 : decode cX1_later 133 = .ok (.istore 6, 2) := by decide +kernel
theorem dX1_later_135 : decode cX1_later 135 = .ok (.aload_n 0, 1) := by decide +kernel
theorem dX1_later_136 : decode cX1_later 136 = .ok (.getfield 65, 3) := by decide +kernel
theorem dX1_later_139 : decode cX1_later 139 = .ok (.iload 6, 2) := by decide +kernel
theorem dX1_later_141 : decode cX1_later 141 = .ok (.iaload, 1) := by decide +kernel
theorem dX1_later_142 : decode cX1_later 142 = .ok (.ifCond .ne 7, 3) := by decide +kernel
theorem dX1_later_145 : decode cX1_later 145 = .ok (.iconst 1, 1) := by decide +kernel
theorem dX1_later_146 : decode cX1_later 146 = .ok (.goto 4, 3) := by decide +kernel
theorem dX1_later_149 : decode cX1_later 149 = .ok (.iconst 0, 1) := by decide +kernel
theorem dX1_later_150 : decode cX1_later 150 = .ok (.istore 7, 2) := by decide +kernel
theorem dX1_later_152 : decode cX1_later 152 = .ok (.aload_n 0, 1) := by decide +kernel
theorem dX1_later_153 : decode cX1_later 153 = .ok (.iload 5, 2) := by decide +kernel
theorem dX1_later_155 : decode cX1_later 155 = .ok (.iload_n 3, 1) := by decide +kernel
theorem dX1_later_156 : decode cX1_later 156 = .ok (.invokevirtual 218, 3) := by decide +kernel
theorem dX1_later_159 : decode cX1_later 159 = .ok (.pop, 1) := by decide +kernel
theorem dX1_later_160 : decode cX1_later 160 = .ok (.iload 7, 2) := by decide +kernel
theorem dX1_later_162 : decode cX1_later 162 = .ok (.ifCond .eq 7, 3) := by decide +kernel
theorem dX1_later_165 : decode cX1_later 165 = .ok (.iconst 1, 1) := by decide +kernel
theorem dX1_later_166 : decode cX1_later 166 = .ok (.goto 4, 3) := by decide +kernel
theorem dX1_later_169 : decode cX1_later 169 = .ok (.iconst 0, 1) := by decide +kernel
theorem dX1_later_170 : decode cX1_later 170 = .ok (.ireturn, 1) := by decide +kernel
theorem dX1_then_2_0 : decode cX1_then_2 0 = .ok (.aload_n 0, 1) := by decide +kernel
theorem dX1_then_2_1 : decode cX1_then_2 1 = .ok (.iload_n 2, 1) := by decide +kernel
theorem dX1_then_2_2 : decode cX1_then_2 2 = .ok (.invokevirtual 292, 3) := by decide +kernel
theorem dX1_then_2_5 : decode cX1_then_2 5 = .ok (.istore 5, 2) := by decide +kernel
theorem dX1_then_2_7 : decode cX1_then_2 7 = .ok (.aload_n 0, 1) := by decide +kernel
theorem dX1_then_2_8 : decode cX1_then_2 8 = .ok (.iload 4, 2) := by decide +kernel
theorem dX1_then_2_10 : decode cX1_then_2 10 = .ok (.ifCond .eq 7, 3) := by decide +kernel
theorem dX1_then_2_13 : decode cX1_then_2 13 = .ok (.iload_n 3, 1) := by decide +kernel
theorem dX1_then_2_14 : decode cX1_then_2 14 = .ok (.goto 4, 3) := by decide +kernel
theorem dX1_then_2_17 : decode cX1_then_2 17 = .ok (.iconst (-1), 1) := by decide +kernel
theorem dX1_then_2_18 : decode cX1_then_2 18 = .ok (.invokevirtual 292, 3) := by decide +kernel
theorem dX1_then_2_21 : decode cX1_then_2 21 = .ok (.istore 6, 2) := by decide +kernel
theorem dX1_then_2_23 : decode cX1_then_2 23 = .ok (.aload_n 0, 1) := by decide +kernel
theorem dX1_then_2_24 : decode cX1_then_2 24 = .ok (.iload_n 1, 1) := by decide +kernel
theorem dX1_then_2_25 : decode cX1_then_2 25 = .ok (.invokevirtual 289, 3) := by decide +kernel
theorem dX1_then_2_28 : decode cX1_then_2 28 = .ok (.istore 7, 2) := by decide +kernel
theorem dX1_then_2_30 : decode cX1_then_2 30 = .ok (.aload_n 0, 1) := by decide +kernel
theorem dX1_then_2_31 : decode cX1_then_2 31 = .ok (.bipush 8, 2) := by decide +kernel
theorem dX1_then_2_33 : decode cX1_then_2 33 = .ok (.invokevirtual 282, 3) := by decide +kernel
theorem dX1_then_2_36 : decode cX1_then_2 36 = .ok (.aload_n 0, 1) := by decide +kernel
theorem dX1_then_2_37 : decode cX1_then_2 37 = .ok (.iload 7, 2) := by decide +kernel
theorem dX1_then_2_39 : decode cX1_then_2 39 = .ok (.iload 5, 2) := by decide +kernel
theorem dX1_then_2_41 : decode cX1_then_2 41 = .ok (.iload 6, 2) := by decide +kernel
theorem dX1_then_2_43 : decode cX1_then_2 43 = .ok (.invokevirtual 234, 3) := by decide +kernel
theorem dX1_then_2_46 : decode cX1_then_2 46 = .ok (.invokestatic 160, 3) := by decide +kernel
theorem dX1_then_2_49 : decode cX1_then_2 49 = .ok (.ireturn, 1) := by decide +kernel
theorem dX1_lastly_0 : decode cX1_lastly 0 = .ok (.aload_n 0, 1) := by decide +kernel
theorem dX1_lastly_1 : decode cX1_lastly 1 = .ok (.iload_n 2, 1) := by decide +kernel
theorem dX1_lastly_2 : decode cX1_lastly 2 = .ok (.invokevirtual 292, 3) := by decide +kernel
theorem dX1_lastly_5 : decode cX1_lastly 5 = .ok (.istore_n 3, 1) := by decide +kernel
theorem dX1_lastly_6 : decode cX1_lastly 6 = .ok (.aload_n 0, 1) := by decide +kernel
theorem dX1_lastly_7 : decode cX1_lastly 7 = .ok (.iload_n 1, 1) := by decide +kernel
theorem dX1_lastly_8 : decode cX1_lastly 8 = .ok (.invokevirtual 289, 3) := by decide +kernel
theorem dX1_lastly_11 : decode cX1_lastly 11 = .ok (.istore 4, 2) := by decide +kernel
theorem dX1_lastly_13 : decode cX1_lastly 13 = .ok (.aload_n 0, 1) := by decide +kernel
theorem dX1_lastly_14 : decode cX1_lastly 14 = .ok (.bipush 8, 2) := by decide +kernel
theorem dX1_lastly_16 : decode cX1_lastly 16 = .ok (.invokevirtual 282, 3) := by decide +kernel
theorem dX1_lastly_19 : decode cX1_lastly 19 = .ok (.iload_n 3, 1) := by decide +kernel
theorem dX1_lastly_20 : decode cX1_lastly 20 = .ok (.ifCond .ge 15, 3) := by decide +kernel
theorem dX1_lastly_23 : decode cX1_lastly 23 = .ok (.aload_n 0, 1) := by decide +kernel
theorem dX1_lastly_24 : decode cX1_lastly 24 = .ok (.iload 4, 2) := by decide +kernel
theorem dX1_lastly_26 : decode cX1_lastly 26 = .ok (.iconst (-1), 1) := by decide +kernel
theorem dX1_lastly_27 : decode cX1_lastly 27 = .ok (.iconst (-1), 1) := by decide +kernel
theorem dX1_lastly_28 : decode cX1_lastly 28 = .ok (.invokevirtual 234, 3) := by decide +kernel
theorem dX1_lastly_31 : decode cX1_lastly 31 = .ok (.invokestatic 160, 3) := by decide +kernel
theorem dX1_lastly_34 : decode cX1_lastly 34 = .ok (.ireturn, 1) := by decide +kernel
theorem dX1_lastly_35 : decode cX1_lastly 35 = .ok (.aload_n 0, 1) := by decide +kernel
theorem dX1_lastly_36 : decode cX1_lastly 36 = .ok (.iload 4, 2) := by decide +kernel
theorem dX1_lastly_38 : decode cX1_lastly 38 = .ok (.aload_n 0, 1) := by decide +kernel
theorem dX1_lastly_39 : decode cX1_lastly 39 = .ok (.bipush 7, 2) := by decide +kernel
theorem dX1_lastly_41 : decode cX1_lastly 41 = .ok (.iload_n 3, 1) := by decide +kernel
theorem dX1_lastly_42 : decode cX1_lastly 42 = .ok (.iconst 0, 1) := by decide +kernel
theorem dX1_lastly_43 : decode cX1_lastly 43 = .ok (.iconst 0, 1) := by decide +kernel
theorem dX1_lastly_44 : decode cX1_lastly 44 = .ok (.invokevirtual 170, 3) := by decide +kernel
theorem dX1_lastly_47 : decode cX1_lastly 47 = .ok (.aload_n 0, 1) := by decide +kernel
theorem dX1_lastly_48 : decode cX1_lastly 48 = .ok (.bipush 8, 2) := by decide +kernel
theorem dX1_lastly_50 : decode cX1_lastly 50 = .ok (.iload_n 3, 1) := by decide +kernel
theorem dX1_lastly_51 : decode cX1_lastly 51 = .ok (.iconst 0, 1) := by decide +kernel
theorem dX1_lastly_52 : decode cX1_lastly 52 = .ok (.iconst 0, 1) := by decide +kernel
theorem dX1_lastly_53 : decode cX1_lastly 53 = .ok (.invokevirtual 170, 3) := by decide +kernel
theorem dX1_lastly_56 : decode cX1_lastly 56 = .ok (.invokevirtual 234, 3) := by decide +kernel
theorem dX1_lastly_59 : decode cX1_lastly 59 = .ok (.invokestatic 160, 3) := by decide +kernel
theorem dX1_lastly_62 : decode cX1_lastly 62 = .ok (.ireturn, 1) := by decide +kernel
theorem dX1_wrap_0 : decode cX1_wrap 0 = .ok (.aload_n 0, 1) := by decide +kernel
theorem dX1_wrap_1 : decode cX1_wrap 1 = .ok (.iload_n 1, 1) := by decide +kernel
theorem dX1_wrap_2 : decode cX1_wrap 2 = .ok (.invokevirtual 286, 3) := by decide +kernel
theorem dX1_wrap_5 : decode cX1_wrap 5 = .ok (.invokestatic 275, 3) := by decide +kernel
theorem dX1_wrap_8 : decode cX1_wrap 8 = .ok (.aload_n 0, 1) := by decide +kernel
theorem dX1_wrap_9 : decode cX1_wrap 9 = .ok (.bipush 8, 2) := by decide +kernel
theorem dX1_wrap_11 : decode cX1_wrap 11 = .ok (.invokevirtual 282, 3) := by decide +kernel
theorem dX1_wrap_14 : decode cX1_wrap 14 = .ok (.aload_n 0, 1) := by decide +kernel
theorem dX1_wrap_15 : decode cX1_wrap 15 = .ok (.iload_n 1, 1) := by decide +kernel
theorem dX1_wrap_16 : decode cX1_wrap 16 = .ok (.invokevirtual 231, 3) := by decide +kernel
theorem dX1_wrap_19 : decode cX1_wrap 19 = .ok (.invokestatic 160, 3) := by decide +kernel
theorem dX1_wrap_22 : decode cX1_wrap 22 = .ok (.ireturn, 1) := by decide +kernel
theorem dX1_broken_0 : decode cX1_broken 0 = .ok (.aload_n 0, 1) := by decide +kernel
theorem dX1_broken_1 : decode cX1_broken 1 = .ok (.iload_n 1, 1) := by decide +kernel
theorem dX1_broken_2 : decode cX1_broken 2 = .ok (.invokevirtual 286, 3) := by decide +kernel
theorem dX1_broken_5 : decode cX1_broken 5 = .ok (.invokestatic 275, 3) := by decide +kernel
theorem dX1_broken_8 : decode cX1_broken 8 = .ok (.aload_n 0, 1) := by decide +kernel
theorem dX1_broken_9 : decode cX1_broken 9 = .ok (.bipush 8, 2) := by decide +kernel
theorem dX1_broken_11 : decode cX1_broken 11 = .ok (.invokevirtual 282, 3) := by decide +kernel
theorem dX1_broken_14 : decode cX1_broken 14 = .ok (.aload_n 0, 1) := by decide +kernel
theorem dX1_broken_15 : decode cX1_broken 15 = .ok (.invokevirtual 204, 3) := by decide +kernel
theorem dX1_broken_18 : decode cX1_broken 18 = .ok (.istore_n 2, 1) := by decide +kernel
theorem dX1_broken_19 : decode cX1_broken 19 = .ok (.aload_n 0, 1) := by decide +kernel
theorem dX1_broken_20 : decode cX1_broken 20 = .ok (.aload_n 0, 1) := by decide +kernel
theorem dX1_broken_21 : decode cX1_broken 21 = .ok (.iload_n 2, 1) := by decide +kernel
theorem dX1_broken_22 : decode cX1_broken 22 = .ok (.invokevirtual 207, 3) := by decide +kernel
theorem dX1_broken_25 : decode cX1_broken 25 = .ok (.iconst 1, 1) := by decide +kernel
theorem dX1_broken_26 : decode cX1_broken 26 = .ok (.iadd, 1) := by decide +kernel
theorem dX1_broken_27 : decode cX1_broken 27 = .ok (.iload_n 1, 1) := by decide +kernel
theorem dX1_broken_28 : decode cX1_broken 28 = .ok (.invokevirtual 218, 3) := by decide +kernel
theorem dX1_broken_31 : decode cX1_broken 31 = .ok (.pop, 1) := by decide +kernel
theorem dX1_broken_32 : decode cX1_broken 32 = .ok (.iload_n 2, 1) := by decide +kernel
theorem dX1_broken_33 : decode cX1_broken 33 = .ok (.invokestatic 160, 3) := by decide +kernel
theorem dX1_broken_36 : decode cX1_broken 36 = .ok (.ireturn, 1) := by decide +kernel
section WALK
variable {p : Program} {l : Launch} {e : Env} {R : Room} {s : State} {m : MethodId} {args : Array Value} {below : List Frame} {meth : Method} {c : Code} {H : Heap} {locs : List Loc} {cells slots : Nat}
variable {E : Ev} {h0 : Nat} {P0 : Le} {kc0 ks0 : Nat} {S0 : State} {A : Nat → Prop} {P : Le} {ls : Array Slot}
theorem m1_thenable_J51 {a1 : Int} {a2 : Int} {a3 : Int} {a4 : Int} {a5 : Int} {b0 : Int} {V : Mv} {Z : Le} {Q : Po} {PX : Px} (X : Cx E 0 h0 P0 kc0 ks0 S0 A p l R s m args meth c cX1_thenable 7 (some .int) 7) (hM : inM V) (hS : HS E 0 h0 P0 kc0 ks0 (sbs []) A s.heap P (toC V) Z H locs cells slots) (hl : lv_has ls 7 [(0, .ref h0), (1, .int (I3 a1)), (2, .int (I3 a2)), (3, .int (I3 a3)), (4, .int (I3 a4)), (5, .int (I3 a5))]) (r1 : inR a1) (r2 : inR a2) (r3 : inR a3) (r4 : inR a4) (r5 : inR a5) (sr0 : inR b0) (hw : w1_thenable_J51 a1 a2 a3 a4 a5 b0 V Z Q PX) : W p l e R s m args below meth c H locs cells slots (MQx below (QT E 0 h0 true P0 kc0 ks0 (sbs []) A (QL Q) (PL PX) s) s) (F0 m 51 ls [.int (I3 b0)]) := by
  have hx := X.2.1
  have hb := X.2.2.1
  unfold w1_thenable_J51 at hw
  refine z_needT X hS hM sr0 hw gs1_275 (by omega) hl.1 (Nat.le_of_ble_eq_true rfl) dX1_thenable_51 (fun hc hw => ?_)
  refine lv_aload_n hx hb dX1_thenable_54 rfl (lv_at hl 0 rfl) ?_
  refine z_bipush hx hb dX1_thenable_55 (by decide +kernel) ?_
  refine z_cRV X hS (m1_room (⟨by decide, by decide⟩) hM hw) gv1_282 hy1_room rfl (by omega) (by decide) (by decide) hl.1 (Nat.le_of_ble_eq_true rfl) dX1_thenable_57 rfl (fun x1 h2 hw => ?_)
  refine lv_aload_n hx hb dX1_thenable_60 rfl (lv_at hl 0 rfl) ?_
  refine z_iconst hx hb dX1_thenable_61 ?_
  refine z_callI X hS (m1_object (⟨by decide, by decide⟩) hM hw) gv1_156 hy1_object rfl (by omega) (by decide) (sbs_sub rfl) hl.1 (Nat.le_of_ble_eq_true rfl) dX1_thenable_62 rfl (fun x3 V5 Z6 h4 hM7 hw P8 H locs c1 s1 hP hS => ?_)
  refine lv_istore (lv' := [(6, .int (I3 x3)), (0, .ref h0), (1, .int (I3 a1)), (2, .int (I3 a2)), (3, .int (I3 a3)), (4, .int (I3 a4)), (5, .int (I3 a5))]) hx hb dX1_thenable_65 hl (by decide) rfl (fun ls hl => ?_)
  refine lv_aload_n hx hb dX1_thenable_67 rfl (lv_at hl 1 rfl) ?_
  refine r_ga X hS f1_8 dX1_thenable_68 ?_
  refine lv_iload hx hb dX1_thenable_71 (lv_at hl 0 rfl) ?_
  refine lv_iload_n hx hb dX1_thenable_73 rfl (lv_at hl 2 rfl) ?_
  refine z_is X hS hM7 a1_8 r1 hw dX1_thenable_74 (fun V9 hM10 hw H locs hS => ?_)
  refine lv_aload_n hx hb dX1_thenable_75 rfl (lv_at hl 1 rfl) ?_
  refine r_ga X hS f1_9 dX1_thenable_76 ?_
  refine lv_iload hx hb dX1_thenable_79 (lv_at hl 0 rfl) ?_
  refine lv_iload_n hx hb dX1_thenable_81 rfl (lv_at hl 3 rfl) ?_
  refine z_is X hS hM10 a1_9 r2 hw dX1_thenable_82 (fun V11 hM12 hw H locs hS => ?_)
  refine lv_aload_n hx hb dX1_thenable_83 rfl (lv_at hl 1 rfl) ?_
  refine r_ga X hS f1_10 dX1_thenable_84 ?_
  refine lv_iload hx hb dX1_thenable_87 (lv_at hl 0 rfl) ?_
  refine lv_iload_n hx hb dX1_thenable_89 rfl (lv_at hl 4 rfl) ?_
  refine z_is X hS hM12 a1_10 r3 hw dX1_thenable_90 (fun V13 hM14 hw H locs hS => ?_)
  refine lv_aload_n hx hb dX1_thenable_91 rfl (lv_at hl 1 rfl) ?_
  refine r_ga X hS f1_11 dX1_thenable_92 ?_
  refine lv_iload hx hb dX1_thenable_95 (lv_at hl 0 rfl) ?_
  refine lv_iload hx hb dX1_thenable_97 (lv_at hl 5 rfl) ?_
  refine z_is X hS hM14 a1_11 r4 hw dX1_thenable_99 (fun V15 hM16 hw H locs hS => ?_)
  refine lv_aload_n hx hb dX1_thenable_100 rfl (lv_at hl 1 rfl) ?_
  refine r_ga X hS f1_12 dX1_thenable_101 ?_
  refine lv_iload hx hb dX1_thenable_104 (lv_at hl 0 rfl) ?_
  refine lv_iload hx hb dX1_thenable_106 (lv_at hl 6 rfl) ?_
  refine z_is X hS hM16 a1_12 r5 hw dX1_thenable_108 (fun V17 hM18 hw H locs hS => ?_)
  refine lv_aload_n hx hb dX1_thenable_109 rfl (lv_at hl 1 rfl) ?_
  refine r_ga X hS f1_13 dX1_thenable_110 ?_
  refine lv_iload hx hb dX1_thenable_113 (lv_at hl 0 rfl) ?_
  refine z_iconst hx hb dX1_thenable_115 ?_
  refine z_is X hS hM18 a1_13 (⟨by decide, by decide⟩) hw dX1_thenable_116 (fun V19 hM20 hw H locs hS => ?_)
  refine lv_iload hx hb dX1_thenable_117 (lv_at hl 0 rfl) ?_
  refine z_vo X hS hw gs1_160 (by omega) hl.1 (Nat.le_of_ble_eq_true rfl) dX1_thenable_119 (fun h21 hw => ?_)
  exact z_ri X hS hM20 h21 hw dX1_thenable_122
theorem m1_thenable_J50 {a1 : Int} {a2 : Int} {a3 : Int} {a4 : Int} {a5 : Int} {V : Mv} {Z : Le} {Q : Po} {PX : Px} (X : Cx E 0 h0 P0 kc0 ks0 S0 A p l R s m args meth c cX1_thenable 7 (some .int) 7) (hM : inM V) (hS : HS E 0 h0 P0 kc0 ks0 (sbs []) A s.heap P (toC V) Z H locs cells slots) (hl : lv_has ls 7 [(0, .ref h0), (1, .int (I3 a1)), (2, .int (I3 a2)), (3, .int (I3 a3)), (4, .int (I3 a4)), (5, .int (I3 a5))]) (r1 : inR a1) (r2 : inR a2) (r3 : inR a3) (r4 : inR a4) (r5 : inR a5) (hw : w1_thenable_J50 a1 a2 a3 a4 a5 V Z Q PX) : W p l e R s m args below meth c H locs cells slots (MQx below (QT E 0 h0 true P0 kc0 ks0 (sbs []) A (QL Q) (PL PX) s) s) (F0 m 50 ls []) := by
  have hx := X.2.1
  have hb := X.2.2.1
  unfold w1_thenable_J50 at hw
  refine z_iconst hx hb dX1_thenable_50 ?_
  exact m1_thenable_J51 X hM hS (lv_sub hl [0, 1, 2, 3, 4, 5] rfl) r1 r2 r3 r4 r5 (⟨by decide, by decide⟩) hw
theorem m1_thenable {a1 : Int} {a2 : Int} {a3 : Int} {a4 : Int} {a5 : Int} {V : Mv} {Z : Le} {Q : Po} {PX : Px} (r1 : inR a1) (r2 : inR a2) (r3 : inR a3) (r4 : inR a4) (r5 : inR a5) (hM : inM V) (hw : w1_thenable a1 a2 a3 a4 a5 V Z Q PX) : MT l S0 E 0 h0 yX1_thenable cX1_thenable 7 (some .int) 7 true (sbs []) [.int (I3 a1), .int (I3 a2), .int (I3 a3), .int (I3 a4), .int (I3 a5)] (toC V) Z (QL Q) (PL PX) := by
  refine mt_of Gk0 (by decide) rfl (Nat.le_of_ble_eq_true rfl) ?_
  intro p e s m below meth c A P ls X hS hl
  have hl : lv_has ls 7 [(0, .ref h0), (1, .int (I3 a1)), (2, .int (I3 a2)), (3, .int (I3 a3)), (4, .int (I3 a4)), (5, .int (I3 a5))] := hl
  have hx := X.2.1
  have hb := X.2.2.1
  unfold w1_thenable at hw
  refine lv_iload_n hx hb dX1_thenable_0 rfl (lv_at hl 1 rfl) ?_
  refine z_zlt (tgt := 50) hx hb r1 hw dX1_thenable_1 (by decide) (fun hc hw => ?_) (fun hc hw => ?_)
  · exact m1_thenable_J50 X hM hS (lv_sub hl [0, 1, 2, 3, 4, 5] rfl) r1 r2 r3 r4 r5 hw
  · refine lv_iload_n hx hb dX1_thenable_4 rfl (lv_at hl 1 rfl) ?_
    refine z_iconst hx hb dX1_thenable_5 ?_
    refine z_igt (tgt := 50) hx hb r1 (⟨by decide, by decide⟩) hw dX1_thenable_6 (by decide) (fun hc hw => ?_) (fun hc hw => ?_)
    · exact m1_thenable_J50 X hM hS (lv_sub hl [0, 1, 2, 3, 4, 5] rfl) r1 r2 r3 r4 r5 hw
    · refine lv_iload_n hx hb dX1_thenable_9 rfl (lv_at hl 2 rfl) ?_
      refine z_zlt (tgt := 50) hx hb r2 hw dX1_thenable_10 (by decide) (fun hc hw => ?_) (fun hc hw => ?_)
      · exact m1_thenable_J50 X hM hS (lv_sub hl [0, 1, 2, 3, 4, 5] rfl) r1 r2 r3 r4 r5 hw
      · refine lv_iload_n hx hb dX1_thenable_13 rfl (lv_at hl 2 rfl) ?_
        refine z_iconst hx hb dX1_thenable_14 ?_
        refine z_igt (tgt := 50) hx hb r2 (⟨by decide, by decide⟩) hw dX1_thenable_15 (by decide) (fun hc hw => ?_) (fun hc hw => ?_)
        · exact m1_thenable_J50 X hM hS (lv_sub hl [0, 1, 2, 3, 4, 5] rfl) r1 r2 r3 r4 r5 hw
        · refine lv_iload hx hb dX1_thenable_18 (lv_at hl 4 rfl) ?_
          refine z_zlt (tgt := 50) hx hb r4 hw dX1_thenable_20 (by decide) (fun hc hw => ?_) (fun hc hw => ?_)
          · exact m1_thenable_J50 X hM hS (lv_sub hl [0, 1, 2, 3, 4, 5] rfl) r1 r2 r3 r4 r5 hw
          · refine lv_iload hx hb dX1_thenable_23 (lv_at hl 4 rfl) ?_
            refine z_iconst hx hb dX1_thenable_25 ?_
            refine z_igt (tgt := 50) hx hb r4 (⟨by decide, by decide⟩) hw dX1_thenable_26 (by decide) (fun hc hw => ?_) (fun hc hw => ?_)
            · exact m1_thenable_J50 X hM hS (lv_sub hl [0, 1, 2, 3, 4, 5] rfl) r1 r2 r3 r4 r5 hw
            · refine lv_aload_n hx hb dX1_thenable_29 rfl (lv_at hl 0 rfl) ?_
              refine lv_iload_n hx hb dX1_thenable_30 rfl (lv_at hl 3 rfl) ?_
              refine z_cRI X hS (m1_isValue r3 hM hw) gv1_286 hy1_isValue rfl (by omega) (by decide) (by decide) hl.1 (Nat.le_of_ble_eq_true rfl) dX1_thenable_31 rfl (fun x22 h23 hw => ?_)
              refine z_zeq (tgt := 50) hx hb h23 hw dX1_thenable_34 (by decide) (fun hc hw => ?_) (fun hc hw => ?_)
              · exact m1_thenable_J50 X hM hS (lv_sub hl [0, 1, 2, 3, 4, 5] rfl) r1 r2 r3 r4 r5 hw
              · refine lv_aload_n hx hb dX1_thenable_37 rfl (lv_at hl 0 rfl) ?_
                refine lv_iload hx hb dX1_thenable_38 (lv_at hl 5 rfl) ?_
                refine z_cRI X hS (m1_isValue r5 hM hw) gv1_286 hy1_isValue rfl (by omega) (by decide) (by decide) hl.1 (Nat.le_of_ble_eq_true rfl) dX1_thenable_40 rfl (fun x24 h25 hw => ?_)
                refine z_zeq (tgt := 50) hx hb h25 hw dX1_thenable_43 (by decide) (fun hc hw => ?_) (fun hc hw => ?_)
                · exact m1_thenable_J50 X hM hS (lv_sub hl [0, 1, 2, 3, 4, 5] rfl) r1 r2 r3 r4 r5 hw
                · refine z_iconst hx hb dX1_thenable_46 ?_
                  refine lv_goto (tgt := 51) hx hb dX1_thenable_47 (by decide) ?_
                  exact m1_thenable_J51 X hM hS (lv_sub hl [0, 1, 2, 3, 4, 5] rfl) r1 r2 r3 r4 r5 (⟨by decide, by decide⟩) hw
theorem m1_settle_J78 {a3 : Int} {a5 : Int} {b0 : Int} {V : Mv} {Z : Le} {Q : Po} {PX : Px} (X : Cx E 0 h0 P0 kc0 ks0 S0 A p l R s m args meth c cX1_settle 7 (some .boolean) 30) (hM : inM V) (hS : HS E 0 h0 P0 kc0 ks0 (sbs [15, 16, 17, 18, 20, 22, 23, 24, 25, 26, 27, 29, 30, 31, 32, 38, 51, 52]) A s.heap P (toC V) Z H locs cells slots) (hl : lv_has ls 7 [(0, .ref h0), (3, .int (I3 a3)), (5, .int (I3 a5))]) (r3 : inR a3) (r5 : inR a5) (sr0 : inR b0) (hw : w1_settle_J78 a3 a5 b0 V Z Q PX) : W p l e R s m args below meth c H locs cells slots (MQx below (QT E 0 h0 true P0 kc0 ks0 (sbs [15, 16, 17, 18, 20, 22, 23, 24, 25, 26, 27, 29, 30, 31, 32, 38, 51, 52]) A (QL Q) (PL PX) s) s) (F0 m 78 ls [.int (I3 b0)]) := by
  have hx := X.2.1
  have hb := X.2.2.1
  unfold w1_settle_J78 at hw
  refine lv_istore (lv' := [(6, .int (I3 b0)), (0, .ref h0), (3, .int (I3 a3)), (5, .int (I3 a5))]) hx hb dX1_settle_78 hl (by decide) rfl (fun ls hl => ?_)
  refine lv_aload_n hx hb dX1_settle_80 rfl (lv_at hl 1 rfl) ?_
  refine lv_iload hx hb dX1_settle_81 (lv_at hl 3 rfl) ?_
  refine lv_iload_n hx hb dX1_settle_83 rfl (lv_at hl 2 rfl) ?_
  refine z_callI X hS (m1_call 3 r5 r3 hM hw) gv1_218 hy1_call rfl (by omega) (by decide) (sbs_sub rfl) hl.1 (Nat.le_of_ble_eq_true rfl) dX1_settle_84 rfl (fun x1 V3 Z4 h2 hM5 hw P6 H locs c1 s1 hP hS => ?_)
  refine lv_pop hx hb dX1_settle_87 rfl ?_
  refine lv_iload hx hb dX1_settle_88 (lv_at hl 0 rfl) ?_
  exact z_rz X hS hM5 sr0 hw dX1_settle_90
theorem m1_settle_J55 {a3 : Int} {b0 : Int} {b1 : Int} {V : Mv} {Z : Le} {Q : Po} {PX : Px} (X : Cx E 0 h0 P0 kc0 ks0 S0 A p l R s m args meth c cX1_settle 7 (some .boolean) 30) (hM : inM V) (hS : HS E 0 h0 P0 kc0 ks0 (sbs [15, 16, 17, 18, 20, 22, 23, 24, 25, 26, 27, 29, 30, 31, 32, 38, 51, 52]) A s.heap P (toC V) Z H locs cells slots) (hl : lv_has ls 7 [(0, .ref h0), (3, .int (I3 a3))]) (r3 : inR a3) (sr0 : inR b0) (sr1 : inR b1) (hw : w1_settle_J55 a3 b0 b1 V Z Q PX) : W p l e R s m args below meth c H locs cells slots (MQx below (QT E 0 h0 true P0 kc0 ks0 (sbs [15, 16, 17, 18, 20, 22, 23, 24, 25, 26, 27, 29, 30, 31, 32, 38, 51, 52]) A (QL Q) (PL PX) s) s) (F0 m 55 ls [.int (I3 b1), .int (I3 b0)]) := by
  have hx := X.2.1
  have hb := X.2.2.1
  unfold w1_settle_J55 at hw
  refine z_add hx hb hw dX1_settle_55 (fun h7 hw => ?_)
  refine lv_istore (lv' := [(5, .int (I3 (b0 + b1))), (0, .ref h0), (3, .int (I3 a3))]) hx hb dX1_settle_56 hl (by decide) rfl (fun ls hl => ?_)
  refine lv_aload_n hx hb dX1_settle_58 rfl (lv_at hl 1 rfl) ?_
  refine r_ga X hS f1_20 dX1_settle_59 ?_
  refine lv_aload_n hx hb dX1_settle_62 rfl (lv_at hl 1 rfl) ?_
  refine r_ga X hS f1_17 dX1_settle_63 ?_
  refine lv_iload hx hb dX1_settle_66 (lv_at hl 0 rfl) ?_
  refine z_il X hS a1_17 hw dX1_settle_68 (fun hw => ?_)
  refine z_il X hS a1_20 hw dX1_settle_69 (fun hw => ?_)
  refine z_zne (tgt := 77) hx hb (hM 20 (V 17 (b0 + b1))) hw dX1_settle_70 (by decide) (fun hc hw => ?_) (fun hc hw => ?_)
  · refine z_iconst hx hb dX1_settle_77 ?_
    exact m1_settle_J78 X hM hS (lv_sub hl [1, 2, 0] rfl) r3 h7 (⟨by decide, by decide⟩) hw
  · refine z_iconst hx hb dX1_settle_73 ?_
    refine lv_goto (tgt := 78) hx hb dX1_settle_74 (by decide) ?_
    exact m1_settle_J78 X hM hS (lv_sub hl [1, 2, 0] rfl) r3 h7 (⟨by decide, by decide⟩) hw
theorem m1_settle_J30 {a2 : Int} {a3 : Int} {a4 : Int} {b0 : Int} {V : Mv} {Z : Le} {Q : Po} {PX : Px} (X : Cx E 0 h0 P0 kc0 ks0 S0 A p l R s m args meth c cX1_settle 7 (some .boolean) 30) (hM : inM V) (hS : HS E 0 h0 P0 kc0 ks0 (sbs [15, 16, 17, 18, 20, 22, 23, 24, 25, 26, 27, 29, 30, 31, 32, 38, 51, 52]) A s.heap P (toC V) Z H locs cells slots) (hl : lv_has ls 7 [(0, .ref h0), (2, .int (I3 a2)), (3, .int (I3 a3)), (4, .int (I3 a4))]) (r2 : inR a2) (r3 : inR a3) (r4 : inR a4) (sr0 : inR b0) (hw : w1_settle_J30 a2 a3 a4 b0 V Z Q PX) : W p l e R s m args below meth c H locs cells slots (MQx below (QT E 0 h0 true P0 kc0 ks0 (sbs [15, 16, 17, 18, 20, 22, 23, 24, 25, 26, 27, 29, 30, 31, 32, 38, 51, 52]) A (QL Q) (PL PX) s) s) (F0 m 30 ls [.int (I3 b0)]) := by
  have hx := X.2.1
  have hb := X.2.2.1
  unfold w1_settle_J30 at hw
  refine z_needT X hS hM sr0 hw gs1_275 (by omega) hl.1 (Nat.le_of_ble_eq_true rfl) dX1_settle_30 (fun hc hw => ?_)
  refine lv_aload_n hx hb dX1_settle_33 rfl (lv_at hl 0 rfl) ?_
  refine z_bipush hx hb dX1_settle_34 (by decide +kernel) ?_
  refine z_cRV X hS (m1_room (⟨by decide, by decide⟩) hM hw) gv1_282 hy1_room rfl (by omega) (by decide) (by decide) hl.1 (Nat.le_of_ble_eq_true rfl) dX1_settle_36 rfl (fun x8 h9 hw => ?_)
  refine lv_aload_n hx hb dX1_settle_39 rfl (lv_at hl 0 rfl) ?_
  refine r_ga X hS f1_5 dX1_settle_40 ?_
  refine lv_iload hx hb dX1_settle_43 (lv_at hl 3 rfl) ?_
  refine z_il X hS a1_5 hw dX1_settle_45 (fun hw => ?_)
  refine lv_iload_n hx hb dX1_settle_46 rfl (lv_at hl 1 rfl) ?_
  refine z_zeq (tgt := 54) hx hb r2 hw dX1_settle_47 (by decide) (fun hc hw => ?_) (fun hc hw => ?_)
  · refine z_iconst hx hb dX1_settle_54 ?_
    exact m1_settle_J55 X hM hS (lv_sub hl [0, 2] rfl) r3 (hM 5 a4) (⟨by decide, by decide⟩) hw
  · refine z_iconst hx hb dX1_settle_50 ?_
    refine lv_goto (tgt := 55) hx hb dX1_settle_51 (by decide) ?_
    exact m1_settle_J55 X hM hS (lv_sub hl [0, 2] rfl) r3 (hM 5 a4) (⟨by decide, by decide⟩) hw
theorem m1_settle {a1 : Int} {a2 : Int} {a3 : Int} {V : Mv} {Z : Le} {Q : Po} {PX : Px} (r1 : inR a1) (r2 : inR a2) (r3 : inR a3) (hM : inM V) (hw : w1_settle a1 a2 a3 V Z Q PX) : MT l S0 E 0 h0 yX1_settle cX1_settle 7 (some .boolean) 30 true (sbs [15, 16, 17, 18, 20, 22, 23, 24, 25, 26, 27, 29, 30, 31, 32, 38, 51, 52]) [.int (I3 a1), .int (I3 a2), .int (I3 a3)] (toC V) Z (QL Q) (PL PX) := by
  refine mt_of Gk0 (by decide) rfl (Nat.le_of_ble_eq_true rfl) ?_
  intro p e s m below meth c A P ls X hS hl
  have hl : lv_has ls 7 [(0, .ref h0), (1, .int (I3 a1)), (2, .int (I3 a2)), (3, .int (I3 a3))] := hl
  have hx := X.2.1
  have hb := X.2.2.1
  unfold w1_settle at hw
  refine lv_aload_n hx hb dX1_settle_0 rfl (lv_at hl 0 rfl) ?_
  refine lv_iload_n hx hb dX1_settle_1 rfl (lv_at hl 3 rfl) ?_
  refine z_cRI X hS (m1_isValue r3 hM hw) gv1_286 hy1_isValue rfl (by omega) (by decide) (by decide) hl.1 (Nat.le_of_ble_eq_true rfl) dX1_settle_2 rfl (fun x10 h11 hw => ?_)
  refine z_needT X hS hM h11 hw gs1_275 (by omega) hl.1 (Nat.le_of_ble_eq_true rfl) dX1_settle_5 (fun hc hw => ?_)
  refine lv_aload_n hx hb dX1_settle_8 rfl (lv_at hl 0 rfl) ?_
  refine lv_iload_n hx hb dX1_settle_9 rfl (lv_at hl 1 rfl) ?_
  refine z_cRI X hS (m1_promiseOf r1 hM hw) gv1_289 hy1_promiseOf rfl (by omega) (by decide) (by decide) hl.1 (Nat.le_of_ble_eq_true rfl) dX1_settle_10 rfl (fun x12 h13 hw => ?_)
  refine lv_istore (lv' := [(4, .int (I3 x12)), (0, .ref h0), (1, .int (I3 a1)), (2, .int (I3 a2)), (3, .int (I3 a3))]) hx hb dX1_settle_13 hl (by decide) rfl (fun ls hl => ?_)
  refine lv_aload_n hx hb dX1_settle_15 rfl (lv_at hl 1 rfl) ?_
  refine r_ga X hS f1_5 dX1_settle_16 ?_
  refine lv_iload hx hb dX1_settle_19 (lv_at hl 0 rfl) ?_
  refine z_il X hS a1_5 hw dX1_settle_21 (fun hw => ?_)
  refine z_zlt (tgt := 29) hx hb (hM 5 x12) hw dX1_settle_22 (by decide) (fun hc hw => ?_) (fun hc hw => ?_)
  · refine z_iconst hx hb dX1_settle_29 ?_
    exact m1_settle_J30 X hM hS (lv_sub hl [1, 3, 4, 0] rfl) r2 r3 h13 (⟨by decide, by decide⟩) hw
  · refine z_iconst hx hb dX1_settle_25 ?_
    refine lv_goto (tgt := 30) hx hb dX1_settle_26 (by decide) ?_
    exact m1_settle_J30 X hM hS (lv_sub hl [1, 3, 4, 0] rfl) r2 r3 h13 (⟨by decide, by decide⟩) hw
theorem m1_later_J170 {b0 : Int} {V : Mv} {Z : Le} {Q : Po} {PX : Px} (X : Cx E 0 h0 P0 kc0 ks0 S0 A p l R s m args meth c cX1_later 8 (some .int) 30) (hM : inM V) (hS : HS E 0 h0 P0 kc0 ks0 (sbs [15, 16, 17, 18, 20, 22, 23, 24, 25, 26, 27, 29, 30, 31, 32, 38, 51, 52]) A s.heap P (toC V) Z H locs cells slots) (hl : lv_has ls 8 []) (sr0 : inR b0) (hw : w1_later_J170 b0 V Z Q PX) : W p l e R s m args below meth c H locs cells slots (MQx below (QT E 0 h0 true P0 kc0 ks0 (sbs [15, 16, 17, 18, 20, 22, 23, 24, 25, 26, 27, 29, 30, 31, 32, 38, 51, 52]) A (QL Q) (PL PX) s) s) (F0 m 170 ls [.int (I3 b0)]) := by
  have hx := X.2.1
  have hb := X.2.2.1
  unfold w1_later_J170 at hw
  exact z_ri X hS hM sr0 hw dX1_later_170
theorem m1_later_J150 {a3 : Int} {a5 : Int} {b0 : Int} {V : Mv} {Z : Le} {Q : Po} {PX : Px} (X : Cx E 0 h0 P0 kc0 ks0 S0 A p l R s m args meth c cX1_later 8 (some .int) 30) (hM : inM V) (hS : HS E 0 h0 P0 kc0 ks0 (sbs [15, 16, 17, 18, 20, 22, 23, 24, 25, 26, 27, 29, 30, 31, 32, 38, 51, 52]) A s.heap P (toC V) Z H locs cells slots) (hl : lv_has ls 8 [(0, .ref h0), (3, .int (I3 a3)), (5, .int (I3 a5))]) (r3 : inR a3) (r5 : inR a5) (sr0 : inR b0) (hw : w1_later_J150 a3 a5 b0 V Z Q PX) : W p l e R s m args below meth c H locs cells slots (MQx below (QT E 0 h0 true P0 kc0 ks0 (sbs [15, 16, 17, 18, 20, 22, 23, 24, 25, 26, 27, 29, 30, 31, 32, 38, 51, 52]) A (QL Q) (PL PX) s) s) (F0 m 150 ls [.int (I3 b0)]) := by
  have hx := X.2.1
  have hb := X.2.2.1
  unfold w1_later_J150 at hw
  refine lv_istore (lv' := [(7, .int (I3 b0)), (0, .ref h0), (3, .int (I3 a3)), (5, .int (I3 a5))]) hx hb dX1_later_150 hl (by decide) rfl (fun ls hl => ?_)
  refine lv_aload_n hx hb dX1_later_152 rfl (lv_at hl 1 rfl) ?_
  refine lv_iload hx hb dX1_later_153 (lv_at hl 3 rfl) ?_
  refine lv_iload_n hx hb dX1_later_155 rfl (lv_at hl 2 rfl) ?_
  refine z_callI X hS (m1_call 3 r5 r3 hM hw) gv1_218 hy1_call rfl (by omega) (by decide) (sbs_sub rfl) hl.1 (Nat.le_of_ble_eq_true rfl) dX1_later_156 rfl (fun x1 V3 Z4 h2 hM5 hw P6 H locs c1 s1 hP hS => ?_)
  refine lv_pop hx hb dX1_later_159 rfl ?_
  refine lv_iload hx hb dX1_later_160 (lv_at hl 0 rfl) ?_
  refine z_zeq (tgt := 169) hx hb sr0 hw dX1_later_162 (by decide) (fun hc hw => ?_) (fun hc hw => ?_)
  · refine z_iconst hx hb dX1_later_169 ?_
    exact m1_later_J170 X hM5 hS (lv_sub hl [] rfl) (⟨by decide, by decide⟩) hw
  · refine z_iconst hx hb dX1_later_165 ?_
    refine lv_goto (tgt := 170) hx hb dX1_later_166 (by decide) ?_
    exact m1_later_J170 X hM5 hS (lv_sub hl [] rfl) (⟨by decide, by decide⟩) hw
theorem m1_later_J133 {a3 : Int} {a5 : Int} {b0 : Int} {V : Mv} {Z : Le} {Q : Po} {PX : Px} (X : Cx E 0 h0 P0 kc0 ks0 S0 A p l R s m args meth c cX1_later 8 (some .int) 30) (hM : inM V) (hS : HS E 0 h0 P0 kc0 ks0 (sbs [15, 16, 17, 18, 20, 22, 23, 24, 25, 26, 27, 29, 30, 31, 32, 38, 51, 52]) A s.heap P (toC V) Z H locs cells slots) (hl : lv_has ls 8 [(0, .ref h0), (3, .int (I3 a3)), (5, .int (I3 a5))]) (r3 : inR a3) (r5 : inR a5) (sr0 : inR b0) (hw : w1_later_J133 a3 a5 b0 V Z Q PX) : W p l e R s m args below meth c H locs cells slots (MQx below (QT E 0 h0 true P0 kc0 ks0 (sbs [15, 16, 17, 18, 20, 22, 23, 24, 25, 26, 27, 29, 30, 31, 32, 38, 51, 52]) A (QL Q) (PL PX) s) s) (F0 m 133 ls [.int (I3 b0)]) := by
  have hx := X.2.1
  have hb := X.2.2.1
  unfold w1_later_J133 at hw
  refine lv_istore (lv' := [(6, .int (I3 b0)), (0, .ref h0), (3, .int (I3 a3)), (5, .int (I3 a5))]) hx hb dX1_later_133 hl (by decide) rfl (fun ls hl => ?_)
  refine lv_aload_n hx hb dX1_later_135 rfl (lv_at hl 1 rfl) ?_
  refine r_ga X hS f1_20 dX1_later_136 ?_
  refine lv_iload hx hb dX1_later_139 (lv_at hl 0 rfl) ?_
  refine z_il X hS a1_20 hw dX1_later_141 (fun hw => ?_)
  refine z_zne (tgt := 149) hx hb (hM 20 b0) hw dX1_later_142 (by decide) (fun hc hw => ?_) (fun hc hw => ?_)
  · refine z_iconst hx hb dX1_later_149 ?_
    exact m1_later_J150 X hM hS (lv_sub hl [1, 2, 3] rfl) r3 r5 (⟨by decide, by decide⟩) hw
  · refine z_iconst hx hb dX1_later_145 ?_
    refine lv_goto (tgt := 150) hx hb dX1_later_146 (by decide) ?_
    exact m1_later_J150 X hM hS (lv_sub hl [1, 2, 3] rfl) r3 r5 (⟨by decide, by decide⟩) hw
theorem m1_later_J116 {a3 : Int} {a5 : Int} {V : Mv} {Z : Le} {Q : Po} {PX : Px} (X : Cx E 0 h0 P0 kc0 ks0 S0 A p l R s m args meth c cX1_later 8 (some .int) 30) (hM : inM V) (hS : HS E 0 h0 P0 kc0 ks0 (sbs [15, 16, 17, 18, 20, 22, 23, 24, 25, 26, 27, 29, 30, 31, 32, 38, 51, 52]) A s.heap P (toC V) Z H locs cells slots) (hl : lv_has ls 8 [(0, .ref h0), (3, .int (I3 a3)), (5, .int (I3 a5))]) (r3 : inR a3) (r5 : inR a5) (hw : w1_later_J116 a3 a5 V Z Q PX) : W p l e R s m args below meth c H locs cells slots (MQx below (QT E 0 h0 true P0 kc0 ks0 (sbs [15, 16, 17, 18, 20, 22, 23, 24, 25, 26, 27, 29, 30, 31, 32, 38, 51, 52]) A (QL Q) (PL PX) s) s) (F0 m 116 ls []) := by
  have hx := X.2.1
  have hb := X.2.2.1
  unfold w1_later_J116 at hw
  refine lv_aload_n hx hb dX1_later_116 rfl (lv_at hl 0 rfl) ?_
  refine r_ga X hS f1_17 dX1_later_117 ?_
  refine lv_iload hx hb dX1_later_120 (lv_at hl 2 rfl) ?_
  refine z_il X hS a1_17 hw dX1_later_122 (fun hw => ?_)
  refine lv_goto (tgt := 133) hx hb dX1_later_123 (by decide) ?_
  exact m1_later_J133 X hM hS (lv_sub hl [0, 1, 2] rfl) r3 r5 (hM 17 a5) hw
theorem m1_later_J92 {a3 : Int} {b0 : Int} {V : Mv} {Z : Le} {Q : Po} {PX : Px} (X : Cx E 0 h0 P0 kc0 ks0 S0 A p l R s m args meth c cX1_later 8 (some .int) 30) (hM : inM V) (hS : HS E 0 h0 P0 kc0 ks0 (sbs [15, 16, 17, 18, 20, 22, 23, 24, 25, 26, 27, 29, 30, 31, 32, 38, 51, 52]) A s.heap P (toC V) Z H locs cells slots) (hl : lv_has ls 8 [(0, .ref h0), (3, .int (I3 a3))]) (r3 : inR a3) (sr0 : inR b0) (hw : w1_later_J92 a3 b0 V Z Q PX) : W p l e R s m args below meth c H locs cells slots (MQx below (QT E 0 h0 true P0 kc0 ks0 (sbs [15, 16, 17, 18, 20, 22, 23, 24, 25, 26, 27, 29, 30, 31, 32, 38, 51, 52]) A (QL Q) (PL PX) s) s) (F0 m 92 ls [.int (I3 b0)]) := by
  have hx := X.2.1
  have hb := X.2.2.1
  unfold w1_later_J92 at hw
  refine lv_istore (lv' := [(5, .int (I3 b0)), (0, .ref h0), (3, .int (I3 a3))]) hx hb dX1_later_92 hl (by decide) rfl (fun ls hl => ?_)
  refine lv_aload_n hx hb dX1_later_94 rfl (lv_at hl 1 rfl) ?_
  refine r_ga X hS f1_15 dX1_later_95 ?_
  refine lv_iload hx hb dX1_later_98 (lv_at hl 0 rfl) ?_
  refine z_il X hS a1_15 hw dX1_later_100 (fun hw => ?_)
  refine z_iconst hx hb dX1_later_101 ?_
  refine z_ieq (tgt := 116) hx hb (hM 15 b0) (⟨by decide, by decide⟩) hw dX1_later_102 (by decide) (fun hc hw => ?_) (fun hc hw => ?_)
  · exact m1_later_J116 X hM hS (lv_sub hl [1, 2, 0] rfl) r3 sr0 hw
  · refine lv_aload_n hx hb dX1_later_105 rfl (lv_at hl 1 rfl) ?_
    refine r_ga X hS f1_15 dX1_later_106 ?_
    refine lv_iload hx hb dX1_later_109 (lv_at hl 0 rfl) ?_
    refine z_il X hS a1_15 hw dX1_later_111 (fun hw => ?_)
    refine z_iconst hx hb dX1_later_112 ?_
    refine z_ine (tgt := 126) hx hb (hM 15 b0) (⟨by decide, by decide⟩) hw dX1_later_113 (by decide) (fun hc hw => ?_) (fun hc hw => ?_)
    · refine lv_aload_n hx hb dX1_later_126 rfl (lv_at hl 1 rfl) ?_
      refine r_ga X hS f1_18 dX1_later_127 ?_
      refine lv_iload hx hb dX1_later_130 (lv_at hl 0 rfl) ?_
      refine z_il X hS a1_18 hw dX1_later_132 (fun hw => ?_)
      exact m1_later_J133 X hM hS (lv_sub hl [1, 2, 0] rfl) r3 sr0 (hM 18 b0) hw
    · exact m1_later_J116 X hM hS (lv_sub hl [1, 2, 0] rfl) r3 sr0 hw
theorem m1_later_J44 {a1 : Int} {a2 : Int} {a3 : Int} {b0 : Int} {V : Mv} {Z : Le} {Q : Po} {PX : Px} (X : Cx E 0 h0 P0 kc0 ks0 S0 A p l R s m args meth c cX1_later 8 (some .int) 30) (hM : inM V) (hS : HS E 0 h0 P0 kc0 ks0 (sbs [15, 16, 17, 18, 20, 22, 23, 24, 25, 26, 27, 29, 30, 31, 32, 38, 51, 52]) A s.heap P (toC V) Z H locs cells slots) (hl : lv_has ls 8 [(0, .ref h0), (1, .int (I3 a1)), (2, .int (I3 a2)), (3, .int (I3 a3))]) (r1 : inR a1) (r2 : inR a2) (r3 : inR a3) (sr0 : inR b0) (hw : w1_later_J44 a1 a2 a3 b0 V Z Q PX) : W p l e R s m args below meth c H locs cells slots (MQx below (QT E 0 h0 true P0 kc0 ks0 (sbs [15, 16, 17, 18, 20, 22, 23, 24, 25, 26, 27, 29, 30, 31, 32, 38, 51, 52]) A (QL Q) (PL PX) s) s) (F0 m 44 ls [.int (I3 b0)]) := by
  have hx := X.2.1
  have hb := X.2.2.1
  unfold w1_later_J44 at hw
  refine z_needT X hS hM sr0 hw gs1_275 (by omega) hl.1 (Nat.le_of_ble_eq_true rfl) dX1_later_44 (fun hc hw => ?_)
  refine lv_iload_n hx hb dX1_later_47 rfl (lv_at hl 1 rfl) ?_
  refine z_id X hS hw gs1_201 (by omega) hl.1 (Nat.le_of_ble_eq_true rfl) dX1_later_48 (fun h7 hw => ?_)
  refine lv_istore (lv' := [(4, .int (I3 (-2 - a1))), (0, .ref h0), (1, .int (I3 a1)), (2, .int (I3 a2)), (3, .int (I3 a3))]) hx hb dX1_later_51 hl (by decide) rfl (fun ls hl => ?_)
  refine lv_aload_n hx hb dX1_later_53 rfl (lv_at hl 1 rfl) ?_
  refine z_bipush hx hb dX1_later_54 (by decide +kernel) ?_
  refine z_cRV X hS (m1_room (⟨by decide, by decide⟩) hM hw) gv1_282 hy1_room rfl (by omega) (by decide) (by decide) hl.1 (Nat.le_of_ble_eq_true rfl) dX1_later_56 rfl (fun x8 h9 hw => ?_)
  refine lv_aload_n hx hb dX1_later_59 rfl (lv_at hl 1 rfl) ?_
  refine r_ga X hS f1_13 dX1_later_60 ?_
  refine lv_iload hx hb dX1_later_63 (lv_at hl 0 rfl) ?_
  refine z_il X hS a1_13 hw dX1_later_65 (fun hw => ?_)
  refine z_zge (tgt := 71) hx hb (hM 13 (-2 - a1)) hw dX1_later_66 (by decide) (fun hc hw => ?_) (fun hc hw => ?_)
  · refine lv_iload_n hx hb dX1_later_71 rfl (lv_at hl 3 rfl) ?_
    refine z_zeq (tgt := 85) hx hb r2 hw dX1_later_72 (by decide) (fun hc hw => ?_) (fun hc hw => ?_)
    · refine lv_aload_n hx hb dX1_later_85 rfl (lv_at hl 1 rfl) ?_
      refine r_ga X hS f1_13 dX1_later_86 ?_
      refine lv_iload hx hb dX1_later_89 (lv_at hl 0 rfl) ?_
      refine z_il X hS a1_13 hw dX1_later_91 (fun hw => ?_)
      exact m1_later_J92 X hM hS (lv_sub hl [1, 4] rfl) r3 (hM 13 (-2 - a1)) hw
    · refine lv_aload_n hx hb dX1_later_75 rfl (lv_at hl 1 rfl) ?_
      refine r_ga X hS f1_14 dX1_later_76 ?_
      refine lv_iload hx hb dX1_later_79 (lv_at hl 0 rfl) ?_
      refine z_il X hS a1_14 hw dX1_later_81 (fun hw => ?_)
      refine lv_goto (tgt := 92) hx hb dX1_later_82 (by decide) ?_
      exact m1_later_J92 X hM hS (lv_sub hl [1, 4] rfl) r3 (hM 14 (-2 - a1)) hw
  · refine z_iconst hx hb dX1_later_69 ?_
    exact z_ri X hS hM (⟨by decide, by decide⟩) hw dX1_later_70
theorem m1_later_J43 {a1 : Int} {a2 : Int} {a3 : Int} {V : Mv} {Z : Le} {Q : Po} {PX : Px} (X : Cx E 0 h0 P0 kc0 ks0 S0 A p l R s m args meth c cX1_later 8 (some .int) 30) (hM : inM V) (hS : HS E 0 h0 P0 kc0 ks0 (sbs [15, 16, 17, 18, 20, 22, 23, 24, 25, 26, 27, 29, 30, 31, 32, 38, 51, 52]) A s.heap P (toC V) Z H locs cells slots) (hl : lv_has ls 8 [(0, .ref h0), (1, .int (I3 a1)), (2, .int (I3 a2)), (3, .int (I3 a3))]) (r1 : inR a1) (r2 : inR a2) (r3 : inR a3) (hw : w1_later_J43 a1 a2 a3 V Z Q PX) : W p l e R s m args below meth c H locs cells slots (MQx below (QT E 0 h0 true P0 kc0 ks0 (sbs [15, 16, 17, 18, 20, 22, 23, 24, 25, 26, 27, 29, 30, 31, 32, 38, 51, 52]) A (QL Q) (PL PX) s) s) (F0 m 43 ls []) := by
  have hx := X.2.1
  have hb := X.2.2.1
  unfold w1_later_J43 at hw
  refine z_iconst hx hb dX1_later_43 ?_
  exact m1_later_J44 X hM hS (lv_sub hl [0, 1, 2, 3] rfl) r1 r2 r3 (⟨by decide, by decide⟩) hw
theorem m1_later {a1 : Int} {a2 : Int} {a3 : Int} {V : Mv} {Z : Le} {Q : Po} {PX : Px} (r1 : inR a1) (r2 : inR a2) (r3 : inR a3) (hM : inM V) (hw : w1_later a1 a2 a3 V Z Q PX) : MT l S0 E 0 h0 yX1_later cX1_later 8 (some .int) 30 true (sbs [15, 16, 17, 18, 20, 22, 23, 24, 25, 26, 27, 29, 30, 31, 32, 38, 51, 52]) [.int (I3 a1), .int (I3 a2), .int (I3 a3)] (toC V) Z (QL Q) (PL PX) := by
  refine mt_of Gk0 (by decide) rfl (Nat.le_of_ble_eq_true rfl) ?_
  intro p e s m below meth c A P ls X hS hl
  have hl : lv_has ls 8 [(0, .ref h0), (1, .int (I3 a1)), (2, .int (I3 a2)), (3, .int (I3 a3))] := hl
  have hx := X.2.1
  have hb := X.2.2.1
  unfold w1_later at hw
  refine lv_aload_n hx hb dX1_later_0 rfl (lv_at hl 0 rfl) ?_
  refine lv_iload_n hx hb dX1_later_1 rfl (lv_at hl 3 rfl) ?_
  refine z_cRI X hS (m1_isValue r3 hM hw) gv1_286 hy1_isValue rfl (by omega) (by decide) (by decide) hl.1 (Nat.le_of_ble_eq_true rfl) dX1_later_2 rfl (fun x10 h11 hw => ?_)
  refine z_zeq (tgt := 43) hx hb h11 hw dX1_later_5 (by decide) (fun hc hw => ?_) (fun hc hw => ?_)
  · exact m1_later_J43 X hM hS (lv_sub hl [0, 1, 2, 3] rfl) r1 r2 r3 hw
  · refine lv_iload_n hx hb dX1_later_8 rfl (lv_at hl 1 rfl) ?_
    refine z_isO X hS r1 gs1_197 (by omega) hl.1 (Nat.le_of_ble_eq_true rfl) dX1_later_9 ?_
    refine z_beq (tgt := 43) hx hb  hw dX1_later_12 (by decide) (fun hc hw => ?_) (fun hc hw => ?_)
    · exact m1_later_J43 X hM hS (lv_sub hl [0, 1, 2, 3] rfl) r1 r2 r3 hw
    · refine lv_iload_n hx hb dX1_later_15 rfl (lv_at hl 1 rfl) ?_
      refine z_id X hS hw gs1_201 (by omega) hl.1 (Nat.le_of_ble_eq_true rfl) dX1_later_16 (fun h12 hw => ?_)
      refine lv_aload_n hx hb dX1_later_19 rfl (lv_at hl 0 rfl) ?_
      refine z_gi X hS f1_7 dX1_later_20 ?_
      refine z_ige (tgt := 43) hx hb h12 (hM 7 0) hw dX1_later_23 (by decide) (fun hc hw => ?_) (fun hc hw => ?_)
      · exact m1_later_J43 X hM hS (lv_sub hl [0, 1, 2, 3] rfl) r1 r2 r3 hw
      · refine lv_aload_n hx hb dX1_later_26 rfl (lv_at hl 0 rfl) ?_
        refine r_ga X hS f1_0 dX1_later_27 ?_
        refine lv_iload_n hx hb dX1_later_30 rfl (lv_at hl 1 rfl) ?_
        refine z_id X hS hw gs1_201 (by omega) hl.1 (Nat.le_of_ble_eq_true rfl) dX1_later_31 (fun h13 hw => ?_)
        refine z_il X hS a1_0 hw dX1_later_34 (fun hw => ?_)
        refine z_iconst hx hb dX1_later_35 ?_
        refine z_ine (tgt := 43) hx hb (hM 0 (-2 - a1)) (⟨by decide, by decide⟩) hw dX1_later_36 (by decide) (fun hc hw => ?_) (fun hc hw => ?_)
        · exact m1_later_J43 X hM hS (lv_sub hl [0, 1, 2, 3] rfl) r1 r2 r3 hw
        · refine z_iconst hx hb dX1_later_39 ?_
          refine lv_goto (tgt := 44) hx hb dX1_later_40 (by decide) ?_
          exact m1_later_J44 X hM hS (lv_sub hl [0, 1, 2, 3] rfl) r1 r2 r3 (⟨by decide, by decide⟩) hw
theorem m1_then_2_J18 {a1 : Int} {a5 : Int} {b1 : Int} {V : Mv} {Z : Le} {Q : Po} {PX : Px} (X : Cx E 0 h0 P0 kc0 ks0 S0 A p l R s m args meth c cX1_then_2 8 (some .int) 8) (hM : inM V) (hS : HS E 0 h0 P0 kc0 ks0 (sbs [15, 16, 17, 18, 20, 22, 23, 24, 25, 26, 27, 29, 30, 31, 32]) A s.heap P (toC V) Z H locs cells slots) (hl : lv_has ls 8 [(0, .ref h0), (1, .int (I3 a1)), (5, .int (I3 a5))]) (r1 : inR a1) (r5 : inR a5) (sr1 : inR b1) (hw : w1_then_2_J18 a1 a5 b1 V Z Q PX) : W p l e R s m args below meth c H locs cells slots (MQx below (QT E 0 h0 true P0 kc0 ks0 (sbs [15, 16, 17, 18, 20, 22, 23, 24, 25, 26, 27, 29, 30, 31, 32]) A (QL Q) (PL PX) s) s) (F0 m 18 ls [.int (I3 b1), .ref h0]) := by
  have hx := X.2.1
  have hb := X.2.2.1
  unfold w1_then_2_J18 at hw
  refine z_cRI X hS (m1_handlerOf sr1 hM hw) gv1_292 hy1_handlerOf rfl (by omega) (by decide) (by decide) hl.1 (Nat.le_of_ble_eq_true rfl) dX1_then_2_18 rfl (fun x1 h2 hw => ?_)
  refine lv_istore (lv' := [(6, .int (I3 x1)), (0, .ref h0), (1, .int (I3 a1)), (5, .int (I3 a5))]) hx hb dX1_then_2_21 hl (by decide) rfl (fun ls hl => ?_)
  refine lv_aload_n hx hb dX1_then_2_23 rfl (lv_at hl 1 rfl) ?_
  refine lv_iload_n hx hb dX1_then_2_24 rfl (lv_at hl 2 rfl) ?_
  refine z_cRI X hS (m1_promiseOf r1 hM hw) gv1_289 hy1_promiseOf rfl (by omega) (by decide) (by decide) hl.1 (Nat.le_of_ble_eq_true rfl) dX1_then_2_25 rfl (fun x3 h4 hw => ?_)
  refine lv_istore (lv' := [(7, .int (I3 x3)), (6, .int (I3 x1)), (0, .ref h0), (1, .int (I3 a1)), (5, .int (I3 a5))]) hx hb dX1_then_2_28 hl (by decide) rfl (fun ls hl => ?_)
  refine lv_aload_n hx hb dX1_then_2_30 rfl (lv_at hl 2 rfl) ?_
  refine z_bipush hx hb dX1_then_2_31 (by decide +kernel) ?_
  refine z_cRV X hS (m1_room (⟨by decide, by decide⟩) hM hw) gv1_282 hy1_room rfl (by omega) (by decide) (by decide) hl.1 (Nat.le_of_ble_eq_true rfl) dX1_then_2_33 rfl (fun x5 h6 hw => ?_)
  refine lv_aload_n hx hb dX1_then_2_36 rfl (lv_at hl 2 rfl) ?_
  refine lv_iload hx hb dX1_then_2_37 (lv_at hl 0 rfl) ?_
  refine lv_iload hx hb dX1_then_2_39 (lv_at hl 4 rfl) ?_
  refine lv_iload hx hb dX1_then_2_41 (lv_at hl 1 rfl) ?_
  refine z_callI X hS (m1_then h4 r5 h2 hM hw) gv1_234 hy1_then rfl (by omega) (by decide) (sbs_sub rfl) hl.1 (Nat.le_of_ble_eq_true rfl) dX1_then_2_43 rfl (fun x7 V9 Z10 h8 hM11 hw P12 H locs c1 s1 hP hS => ?_)
  refine z_vo X hS hw gs1_160 (by omega) hl.1 (Nat.le_of_ble_eq_true rfl) dX1_then_2_46 (fun h13 hw => ?_)
  exact z_ri X hS hM11 h13 hw dX1_then_2_49
theorem m1_then_2 {a1 : Int} {a2 : Int} {a3 : Int} {a4 : Int} {V : Mv} {Z : Le} {Q : Po} {PX : Px} (r1 : inR a1) (r2 : inR a2) (r3 : inR a3) (r4 : inR a4) (hM : inM V) (hw : w1_then_2 a1 a2 a3 a4 V Z Q PX) : MT l S0 E 0 h0 yX1_then_2 cX1_then_2 8 (some .int) 8 true (sbs [15, 16, 17, 18, 20, 22, 23, 24, 25, 26, 27, 29, 30, 31, 32]) [.int (I3 a1), .int (I3 a2), .int (I3 a3), .int (I3 a4)] (toC V) Z (QL Q) (PL PX) := by
  refine mt_of Gk0 (by decide) rfl (Nat.le_of_ble_eq_true rfl) ?_
  intro p e s m below meth c A P ls X hS hl
  have hl : lv_has ls 8 [(0, .ref h0), (1, .int (I3 a1)), (2, .int (I3 a2)), (3, .int (I3 a3)), (4, .int (I3 a4))] := hl
  have hx := X.2.1
  have hb := X.2.2.1
  unfold w1_then_2 at hw
  refine lv_aload_n hx hb dX1_then_2_0 rfl (lv_at hl 0 rfl) ?_
  refine lv_iload_n hx hb dX1_then_2_1 rfl (lv_at hl 2 rfl) ?_
  refine z_cRI X hS (m1_handlerOf r2 hM hw) gv1_292 hy1_handlerOf rfl (by omega) (by decide) (by decide) hl.1 (Nat.le_of_ble_eq_true rfl) dX1_then_2_2 rfl (fun x14 h15 hw => ?_)
  refine lv_istore (lv' := [(5, .int (I3 x14)), (0, .ref h0), (1, .int (I3 a1)), (2, .int (I3 a2)), (3, .int (I3 a3)), (4, .int (I3 a4))]) hx hb dX1_then_2_5 hl (by decide) rfl (fun ls hl => ?_)
  refine lv_aload_n hx hb dX1_then_2_7 rfl (lv_at hl 1 rfl) ?_
  refine lv_iload hx hb dX1_then_2_8 (lv_at hl 5 rfl) ?_
  refine z_zeq (tgt := 17) hx hb r4 hw dX1_then_2_10 (by decide) (fun hc hw => ?_) (fun hc hw => ?_)
  · refine z_iconst hx hb dX1_then_2_17 ?_
    exact m1_then_2_J18 X hM hS (lv_sub hl [1, 2, 0] rfl) r1 h15 (⟨by decide, by decide⟩) hw
  · refine lv_iload_n hx hb dX1_then_2_13 rfl (lv_at hl 4 rfl) ?_
    refine lv_goto (tgt := 18) hx hb dX1_then_2_14 (by decide) ?_
    exact m1_then_2_J18 X hM hS (lv_sub hl [1, 2, 0] rfl) r1 h15 r3 hw
theorem m1_lastly {a1 : Int} {a2 : Int} {V : Mv} {Z : Le} {Q : Po} {PX : Px} (r1 : inR a1) (r2 : inR a2) (hM : inM V) (hw : w1_lastly a1 a2 V Z Q PX) : MT l S0 E 0 h0 yX1_lastly cX1_lastly 5 (some .int) 8 true (sbs [15, 16, 17, 18, 20, 22, 23, 24, 25, 26, 27, 29, 30, 31, 32]) [.int (I3 a1), .int (I3 a2)] (toC V) Z (QL Q) (PL PX) := by
  refine mt_of Gk0 (by decide) rfl (Nat.le_of_ble_eq_true rfl) ?_
  intro p e s m below meth c A P ls X hS hl
  have hl : lv_has ls 5 [(0, .ref h0), (1, .int (I3 a1)), (2, .int (I3 a2))] := hl
  have hx := X.2.1
  have hb := X.2.2.1
  unfold w1_lastly at hw
  refine lv_aload_n hx hb dX1_lastly_0 rfl (lv_at hl 0 rfl) ?_
  refine lv_iload_n hx hb dX1_lastly_1 rfl (lv_at hl 2 rfl) ?_
  refine z_cRI X hS (m1_handlerOf r2 hM hw) gv1_292 hy1_handlerOf rfl (by omega) (by decide) (by decide) hl.1 (Nat.le_of_ble_eq_true rfl) dX1_lastly_2 rfl (fun x1 h2 hw => ?_)
  refine lv_istore_n (lv' := [(3, .int (I3 x1)), (0, .ref h0), (1, .int (I3 a1)), (2, .int (I3 a2))]) hx hb dX1_lastly_5 rfl hl (by decide) rfl (fun ls hl => ?_)
  refine lv_aload_n hx hb dX1_lastly_6 rfl (lv_at hl 1 rfl) ?_
  refine lv_iload_n hx hb dX1_lastly_7 rfl (lv_at hl 2 rfl) ?_
  refine z_cRI X hS (m1_promiseOf r1 hM hw) gv1_289 hy1_promiseOf rfl (by omega) (by decide) (by decide) hl.1 (Nat.le_of_ble_eq_true rfl) dX1_lastly_8 rfl (fun x3 h4 hw => ?_)
  refine lv_istore (lv' := [(4, .int (I3 x3)), (3, .int (I3 x1)), (0, .ref h0), (1, .int (I3 a1)), (2, .int (I3 a2))]) hx hb dX1_lastly_11 hl (by decide) rfl (fun ls hl => ?_)
  refine lv_aload_n hx hb dX1_lastly_13 rfl (lv_at hl 2 rfl) ?_
  refine z_bipush hx hb dX1_lastly_14 (by decide +kernel) ?_
  refine z_cRV X hS (m1_room (⟨by decide, by decide⟩) hM hw) gv1_282 hy1_room rfl (by omega) (by decide) (by decide) hl.1 (Nat.le_of_ble_eq_true rfl) dX1_lastly_16 rfl (fun x5 h6 hw => ?_)
  refine lv_iload_n hx hb dX1_lastly_19 rfl (lv_at hl 1 rfl) ?_
  refine z_zge (tgt := 35) hx hb h2 hw dX1_lastly_20 (by decide) (fun hc hw => ?_) (fun hc hw => ?_)
  · refine lv_aload_n hx hb dX1_lastly_35 rfl (lv_at hl 2 rfl) ?_
    refine lv_iload hx hb dX1_lastly_36 (lv_at hl 0 rfl) ?_
    refine lv_aload_n hx hb dX1_lastly_38 rfl (lv_at hl 2 rfl) ?_
    refine z_bipush hx hb dX1_lastly_39 (by decide +kernel) ?_
    refine lv_iload_n hx hb dX1_lastly_41 rfl (lv_at hl 1 rfl) ?_
    refine z_iconst hx hb dX1_lastly_42 ?_
    refine z_iconst hx hb dX1_lastly_43 ?_
    refine z_callI X hS (m1_function (⟨by decide, by decide⟩) h2 (⟨by decide, by decide⟩) (⟨by decide, by decide⟩) hM hw) gv1_170 hy1_function rfl (by omega) (by decide) (sbs_sub rfl) hl.1 (Nat.le_of_ble_eq_true rfl) dX1_lastly_44 rfl (fun x7 V9 Z10 h8 hM11 hw P12 H locs c1 s1 hP hS => ?_)
    refine lv_aload_n hx hb dX1_lastly_47 rfl (lv_at hl 2 rfl) ?_
    refine z_bipush hx hb dX1_lastly_48 (by decide +kernel) ?_
    refine lv_iload_n hx hb dX1_lastly_50 rfl (lv_at hl 1 rfl) ?_
    refine z_iconst hx hb dX1_lastly_51 ?_
    refine z_iconst hx hb dX1_lastly_52 ?_
    refine z_callI X hS (m1_function (⟨by decide, by decide⟩) h2 (⟨by decide, by decide⟩) (⟨by decide, by decide⟩) hM11 hw) gv1_170 hy1_function rfl (by omega) (by decide) (sbs_sub rfl) hl.1 (Nat.le_of_ble_eq_true rfl) dX1_lastly_53 rfl (fun x13 V15 Z16 h14 hM17 hw P18 H locs c1 s1 hP hS => ?_)
    refine z_callI X hS (m1_then h4 h8 h14 hM17 hw) gv1_234 hy1_then rfl (by omega) (by decide) (sbs_sub rfl) hl.1 (Nat.le_of_ble_eq_true rfl) dX1_lastly_56 rfl (fun x19 V21 Z22 h20 hM23 hw P24 H locs c1 s1 hP hS => ?_)
    refine z_vo X hS hw gs1_160 (by omega) hl.1 (Nat.le_of_ble_eq_true rfl) dX1_lastly_59 (fun h25 hw => ?_)
    exact z_ri X hS hM23 h25 hw dX1_lastly_62
  · refine lv_aload_n hx hb dX1_lastly_23 rfl (lv_at hl 2 rfl) ?_
    refine lv_iload hx hb dX1_lastly_24 (lv_at hl 0 rfl) ?_
    refine z_iconst hx hb dX1_lastly_26 ?_
    refine z_iconst hx hb dX1_lastly_27 ?_
    refine z_callI X hS (m1_then h4 (⟨by decide, by decide⟩) (⟨by decide, by decide⟩) hM hw) gv1_234 hy1_then rfl (by omega) (by decide) (sbs_sub rfl) hl.1 (Nat.le_of_ble_eq_true rfl) dX1_lastly_28 rfl (fun x26 V28 Z29 h27 hM30 hw P31 H locs c1 s1 hP hS => ?_)
    refine z_vo X hS hw gs1_160 (by omega) hl.1 (Nat.le_of_ble_eq_true rfl) dX1_lastly_31 (fun h32 hw => ?_)
    exact z_ri X hS hM30 h32 hw dX1_lastly_34
theorem m1_wrap {a1 : Int} {V : Mv} {Z : Le} {Q : Po} {PX : Px} (r1 : inR a1) (hM : inM V) (hw : w1_wrap a1 V Z Q PX) : MT l S0 E 0 h0 yX1_wrap cX1_wrap 2 (some .int) 31 true (sbs [15, 16, 17, 18, 20, 22, 23, 24, 25, 26, 27, 29, 30, 31, 32, 38, 51, 52]) [.int (I3 a1)] (toC V) Z (QL Q) (PL PX) := by
  refine mt_of Gk0 (by decide) rfl (Nat.le_of_ble_eq_true rfl) ?_
  intro p e s m below meth c A P ls X hS hl
  have hl : lv_has ls 2 [(0, .ref h0), (1, .int (I3 a1))] := hl
  have hx := X.2.1
  have hb := X.2.2.1
  unfold w1_wrap at hw
  refine lv_aload_n hx hb dX1_wrap_0 rfl (lv_at hl 0 rfl) ?_
  refine lv_iload_n hx hb dX1_wrap_1 rfl (lv_at hl 1 rfl) ?_
  refine z_cRI X hS (m1_isValue r1 hM hw) gv1_286 hy1_isValue rfl (by omega) (by decide) (by decide) hl.1 (Nat.le_of_ble_eq_true rfl) dX1_wrap_2 rfl (fun x1 h2 hw => ?_)
  refine z_needT X hS hM h2 hw gs1_275 (by omega) hl.1 (Nat.le_of_ble_eq_true rfl) dX1_wrap_5 (fun hc hw => ?_)
  refine lv_aload_n hx hb dX1_wrap_8 rfl (lv_at hl 0 rfl) ?_
  refine z_bipush hx hb dX1_wrap_9 (by decide +kernel) ?_
  refine z_cRV X hS (m1_room (⟨by decide, by decide⟩) hM hw) gv1_282 hy1_room rfl (by omega) (by decide) (by decide) hl.1 (Nat.le_of_ble_eq_true rfl) dX1_wrap_11 rfl (fun x3 h4 hw => ?_)
  refine lv_aload_n hx hb dX1_wrap_14 rfl (lv_at hl 0 rfl) ?_
  refine lv_iload_n hx hb dX1_wrap_15 rfl (lv_at hl 1 rfl) ?_
  refine z_callI X hS (m1_wrapped (by decide) (m1_call 3) r1 hM hw) gv1_231 hy1_wrapped rfl (by omega) (by decide) (sbs_sub rfl) hl.1 (Nat.le_of_ble_eq_true rfl) dX1_wrap_16 rfl (fun x5 V7 Z8 h6 hM9 hw P10 H locs c1 s1 hP hS => ?_)
  refine z_vo X hS hw gs1_160 (by omega) hl.1 (Nat.le_of_ble_eq_true rfl) dX1_wrap_19 (fun h11 hw => ?_)
  exact z_ri X hS hM9 h11 hw dX1_wrap_22
theorem m1_broken {a1 : Int} {V : Mv} {Z : Le} {Q : Po} {PX : Px} (r1 : inR a1) (hM : inM V) (hw : w1_broken a1 V Z Q PX) : MT l S0 E 0 h0 yX1_broken cX1_broken 3 (some .int) 30 true (sbs [15, 16, 17, 18, 20, 22, 23, 24, 25, 26, 27, 29, 30, 31, 32, 38, 51, 52]) [.int (I3 a1)] (toC V) Z (QL Q) (PL PX) := by
  refine mt_of Gk0 (by decide) rfl (Nat.le_of_ble_eq_true rfl) ?_
  intro p e s m below meth c A P ls X hS hl
  have hl : lv_has ls 3 [(0, .ref h0), (1, .int (I3 a1))] := hl
  have hx := X.2.1
  have hb := X.2.2.1
  unfold w1_broken at hw
  refine lv_aload_n hx hb dX1_broken_0 rfl (lv_at hl 0 rfl) ?_
  refine lv_iload_n hx hb dX1_broken_1 rfl (lv_at hl 1 rfl) ?_
  refine z_cRI X hS (m1_isValue r1 hM hw) gv1_286 hy1_isValue rfl (by omega) (by decide) (by decide) hl.1 (Nat.le_of_ble_eq_true rfl) dX1_broken_2 rfl (fun x1 h2 hw => ?_)
  refine z_needT X hS hM h2 hw gs1_275 (by omega) hl.1 (Nat.le_of_ble_eq_true rfl) dX1_broken_5 (fun hc hw => ?_)
  refine lv_aload_n hx hb dX1_broken_8 rfl (lv_at hl 0 rfl) ?_
  refine z_bipush hx hb dX1_broken_9 (by decide +kernel) ?_
  refine z_cRV X hS (m1_room (⟨by decide, by decide⟩) hM hw) gv1_282 hy1_room rfl (by omega) (by decide) (by decide) hl.1 (Nat.le_of_ble_eq_true rfl) dX1_broken_11 rfl (fun x3 h4 hw => ?_)
  refine lv_aload_n hx hb dX1_broken_14 rfl (lv_at hl 0 rfl) ?_
  refine z_callI X hS (m1_newPromise  hM hw) gv1_204 hy1_newPromise rfl (by omega) (by decide) (sbs_sub rfl) hl.1 (Nat.le_of_ble_eq_true rfl) dX1_broken_15 rfl (fun x5 V7 Z8 h6 hM9 hw P10 H locs c1 s1 hP hS => ?_)
  refine lv_istore_n (lv' := [(2, .int (I3 x5)), (0, .ref h0), (1, .int (I3 a1))]) hx hb dX1_broken_18 rfl hl (by decide) rfl (fun ls hl => ?_)
  refine lv_aload_n hx hb dX1_broken_19 rfl (lv_at hl 1 rfl) ?_
  refine lv_aload_n hx hb dX1_broken_20 rfl (lv_at hl 1 rfl) ?_
  refine lv_iload_n hx hb dX1_broken_21 rfl (lv_at hl 0 rfl) ?_
  refine z_callI X hS (m1_functionsOf h6 hM9 hw) gv1_207 hy1_functionsOf rfl (by omega) (by decide) (sbs_sub rfl) hl.1 (Nat.le_of_ble_eq_true rfl) dX1_broken_22 rfl (fun x11 V13 Z14 h12 hM15 hw P16 H locs c1 s1 hP hS => ?_)
  refine z_iconst hx hb dX1_broken_25 ?_
  refine z_add hx hb hw dX1_broken_26 (fun h17 hw => ?_)
  refine lv_iload_n hx hb dX1_broken_27 rfl (lv_at hl 2 rfl) ?_
  refine z_callI X hS (m1_call 3 h17 r1 hM15 hw) gv1_218 hy1_call rfl (by omega) (by decide) (sbs_sub rfl) hl.1 (Nat.le_of_ble_eq_true rfl) dX1_broken_28 rfl (fun x18 V20 Z21 h19 hM22 hw P23 H locs c1 s1 hP hS => ?_)
  refine lv_pop hx hb dX1_broken_31 rfl ?_
  refine lv_iload_n hx hb dX1_broken_32 rfl (lv_at hl 0 rfl) ?_
  refine z_vo X hS hw gs1_160 (by omega) hl.1 (Nat.le_of_ble_eq_true rfl) dX1_broken_33 (fun h24 hw => ?_)
  exact z_ri X hS hM22 h24 hw dX1_broken_36
end WALK
