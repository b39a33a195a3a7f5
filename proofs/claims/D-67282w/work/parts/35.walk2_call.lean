set_option maxRecDepth 100000
theorem dX2_call_0 : decode cX2_call 0 = .ok (.aload_n 0, 1) := by decide +kernel
theorem dX2_call_1 : decode cX2_call 1 = .ok (.iconst 0, 1) := by decide +kernel
theorem dX2_call_2 : decode cX2_call 2 = .ok (.putfield 193, 3) := by decide +kernel
theorem dX2_call_5 : decode cX2_call 5 = .ok (.iload_n 1, 1) := by decide +kernel
theorem dX2_call_6 : decode cX2_call 6 = .ok (.tableswitch 129 1 12 #[62, 69, 77, 85, 85, 85, 85, 94, 94, 102, 109, 121], 62) := by decide +kernel
theorem dX2_call_68 : decode cX2_call 68 = .ok (.aload_n 0, 1) := by decide +kernel
theorem dX2_call_69 : decode cX2_call 69 = .ok (.iload_n 2, 1) := by decide +kernel
theorem dX2_call_70 : decode cX2_call 70 = .ok (.iload_n 3, 1) := by decide +kernel
theorem dX2_call_71 : decode cX2_call 71 = .ok (.invokevirtual 200, 3) := by decide +kernel
theorem dX2_call_74 : decode cX2_call 74 = .ok (.ireturn, 1) := by decide +kernel
theorem dX2_call_75 : decode cX2_call 75 = .ok (.aload_n 0, 1) := by decide +kernel
theorem dX2_call_76 : decode cX2_call 76 = .ok (.iload_n 2, 1) := by decide +kernel
theorem dX2_call_77 : decode cX2_call 77 = .ok (.iload_n 3, 1) := by decide +kernel
theorem dX2_call_78 : decode cX2_call 78 = .ok (.invokevirtual 183, 3) := by decide +kernel
theorem dX2_call_81 : decode cX2_call 81 = .ok (.iconst (-1), 1) := by decide +kernel
theorem dX2_call_82 : decode cX2_call 82 = .ok (.ireturn, 1) := by decide +kernel
theorem dX2_call_83 : decode cX2_call 83 = .ok (.aload_n 0, 1) := by decide +kernel
theorem dX2_call_84 : decode cX2_call 84 = .ok (.iload_n 2, 1) := by decide +kernel
theorem dX2_call_85 : decode cX2_call 85 = .ok (.iload_n 3, 1) := by decide +kernel
theorem dX2_call_86 : decode cX2_call 86 = .ok (.invokevirtual 197, 3) := by decide +kernel
theorem dX2_call_89 : decode cX2_call 89 = .ok (.iconst (-1), 1) := by decide +kernel
theorem dX2_call_90 : decode cX2_call 90 = .ok (.ireturn, 1) := by decide +kernel
theorem dX2_call_91 : decode cX2_call 91 = .ok (.aload_n 0, 1) := by decide +kernel
theorem dX2_call_92 : decode cX2_call 92 = .ok (.iload_n 1, 1) := by decide +kernel
theorem dX2_call_93 : decode cX2_call 93 = .ok (.iload_n 2, 1) := by decide +kernel
theorem dX2_call_94 : decode cX2_call 94 = .ok (.iload_n 3, 1) := by decide +kernel
theorem dX2_call_95 : decode cX2_call 95 = .ok (.invokevirtual 204, 3) := by decide +kernel
theorem dX2_call_98 : decode cX2_call 98 = .ok (.iconst (-1), 1) := by decide +kernel
theorem dX2_call_99 : decode cX2_call 99 = .ok (.ireturn, 1) := by decide +kernel
theorem dX2_call_100 : decode cX2_call 100 = .ok (.aload_n 0, 1) := by decide +kernel
theorem dX2_call_101 : decode cX2_call 101 = .ok (.iload_n 1, 1) := by decide +kernel
theorem dX2_call_102 : decode cX2_call 102 = .ok (.iload_n 2, 1) := by decide +kernel
theorem dX2_call_103 : decode cX2_call 103 = .ok (.iload_n 3, 1) := by decide +kernel
theorem dX2_call_104 : decode cX2_call 104 = .ok (.invokevirtual 207, 3) := by decide +kernel
theorem dX2_call_107 : decode cX2_call 107 = .ok (.ireturn, 1) := by decide +kernel
theorem dX2_call_108 : decode cX2_call 108 = .ok (.aload_n 0, 1) := by decide +kernel
theorem dX2_call_109 : decode cX2_call 109 = .ok (.getfield 101, 3) := by decide +kernel
theorem dX2_call_112 : decode cX2_call 112 = .ok (.iload_n 2, 1) := by decide +kernel
theorem dX2_call_113 : decode cX2_call 113 = .ok (.iaload, 1) := by decide +kernel
theorem dX2_call_114 : decode cX2_call 114 = .ok (.ireturn, 1) := by decide +kernel
theorem dX2_call_115 : decode cX2_call 115 = .ok (.aload_n 0, 1) := by decide +kernel
theorem dX2_call_116 : decode cX2_call 116 = .ok (.iconst 1, 1) := by decide +kernel
theorem dX2_call_117 : decode cX2_call 117 = .ok (.putfield 193, 3) := by decide +kernel
theorem dX2_call_120 : decode cX2_call 120 = .ok (.aload_n 0, 1) := by decide +kernel
theorem dX2_call_121 : decode cX2_call 121 = .ok (.getfield 101, 3) := by decide +kernel
theorem dX2_call_124 : decode cX2_call 124 = .ok (.iload_n 2, 1) := by decide +kernel
theorem dX2_call_125 : decode cX2_call 125 = .ok (.iaload, 1) := by decide +kernel
theorem dX2_call_126 : decode cX2_call 126 = .ok (.ireturn, 1) := by decide +kernel
theorem dX2_call_127 : decode cX2_call 127 = .ok (.aload_n 0, 1) := by decide +kernel
theorem dX2_call_128 : decode cX2_call 128 = .ok (.iload_n 2, 1) := by decide +kernel
theorem dX2_call_129 : decode cX2_call 129 = .ok (.iload_n 3, 1) := by decide +kernel
theorem dX2_call_130 : decode cX2_call 130 = .ok (.invokevirtual 211, 3) := by decide +kernel
theorem dX2_call_133 : decode cX2_call 133 = .ok (.iconst (-1), 1) := by decide +kernel
theorem dX2_call_134 : decode cX2_call 134 = .ok (.ireturn, 1) := by decide +kernel
theorem dX2_call_135 : decode cX2_call 135 = .ok (.aload_n 0, 1) := by decide +kernel
theorem dX2_call_136 : decode cX2_call 136 = .ok (.aload_n 0, 1) := by decide +kernel
theorem dX2_call_137 : decode cX2_call 137 = .ok (.getfield 119, 3) := by decide +kernel
theorem dX2_call_140 : decode cX2_call 140 = .ok (.iload_n 2, 1) := by decide +kernel
theorem dX2_call_141 : decode cX2_call 141 = .ok (.iaload, 1) := by decide +kernel
theorem dX2_call_142 : decode cX2_call 142 = .ok (.iload_n 3, 1) := by decide +kernel
theorem dX2_call_143 : decode cX2_call 143 = .ok (.invokevirtual 197, 3) := by decide +kernel
theorem dX2_call_146 : decode cX2_call 146 = .ok (.iconst (-1), 1) := by decide +kernel
theorem dX2_call_147 : decode cX2_call 147 = .ok (.ireturn, 1) := by decide +kernel
theorem dX2_does_0 : decode cX2_does 0 = .ok (.iload_n 2, 1) := by decide +kernel
theorem dX2_does_1 : decode cX2_does 1 = .ok (.iconst 1, 1) := by decide +kernel
theorem dX2_does_2 : decode cX2_does 2 = .ok (.if_icmp .ne 13, 3) := by decide +kernel
theorem dX2_does_5 : decode cX2_does 5 = .ok (.aload_n 0, 1) := by decide +kernel
theorem dX2_does_6 : decode cX2_does 6 = .ok (.iload 4, 2) := by decide +kernel
theorem dX2_does_8 : decode cX2_does 8 = .ok (.iload_n 3, 1) := by decide +kernel
theorem dX2_does_9 : decode cX2_does 9 = .ok (.invokevirtual 183, 3) := by decide +kernel
theorem dX2_does_12 : decode cX2_does 12 = .ok (.goto 46, 3) := by decide +kernel
theorem dX2_does_15 : decode cX2_does 15 = .ok (.iload_n 2, 1) := by decide +kernel
theorem dX2_does_16 : decode cX2_does 16 = .ok (.iconst 2, 1) := by decide +kernel
theorem dX2_does_17 : decode cX2_does 17 = .ok (.if_icmp .ne 13, 3) := by decide +kernel
theorem dX2_does_20 : decode cX2_does 20 = .ok (.aload_n 0, 1) := by decide +kernel
theorem dX2_does_21 : decode cX2_does 21 = .ok (.iload 4, 2) := by decide +kernel
theorem dX2_does_23 : decode cX2_does 23 = .ok (.iload_n 3, 1) := by decide +kernel
theorem dX2_does_24 : decode cX2_does 24 = .ok (.invokevirtual 197, 3) := by decide +kernel
theorem dX2_does_27 : decode cX2_does 27 = .ok (.goto 31, 3) := by decide +kernel
theorem dX2_does_30 : decode cX2_does 30 = .ok (.iload_n 2, 1) := by decide +kernel
theorem dX2_does_31 : decode cX2_does 31 = .ok (.iconst 3, 1) := by decide +kernel
theorem dX2_does_32 : decode cX2_does 32 = .ok (.if_icmp .ne 13, 3) := by decide +kernel
theorem dX2_does_35 : decode cX2_does 35 = .ok (.aload_n 0, 1) := by decide +kernel
theorem dX2_does_36 : decode cX2_does 36 = .ok (.iload 4, 2) := by decide +kernel
theorem dX2_does_38 : decode cX2_does 38 = .ok (.iload_n 3, 1) := by decide +kernel
theorem dX2_does_39 : decode cX2_does 39 = .ok (.invokevirtual 197, 3) := by decide +kernel
theorem dX2_does_42 : decode cX2_does 42 = .ok (.goto 16, 3) := by decide +kernel
theorem dX2_does_45 : decode cX2_does 45 = .ok (.iload_n 2, 1) := by decide +kernel
theorem dX2_does_46 : decode cX2_does 46 = .ok (.iconst 4, 1) := by decide +kernel
theorem dX2_does_47 : decode cX2_does 47 = .ok (.if_icmp .ne 11, 3) := by decide +kernel
theorem dX2_does_50 : decode cX2_does 50 = .ok (.aload_n 0, 1) := by decide +kernel
theorem dX2_does_51 : decode cX2_does 51 = .ok (.getfield 22, 3) := by decide +kernel
theorem dX2_does_54 : decode cX2_does 54 = .ok (.iload_n 1, 1) := by decide +kernel
theorem dX2_does_55 : decode cX2_does 55 = .ok (.iload 4, 2) := by decide +kernel
theorem dX2_does_57 : decode cX2_does 57 = .ok (.iastore, 1) := by decide +kernel
theorem dX2_does_58 : decode cX2_does 58 = .ok (.iload_n 2, 1) := by decide +kernel
theorem dX2_does_59 : decode cX2_does 59 = .ok (.iconst 3, 1) := by decide +kernel
theorem dX2_does_60 : decode cX2_does 60 = .ok (.if_icmp .ne 7, 3) := by decide +kernel
theorem dX2_does_63 : decode cX2_does 63 = .ok (.iconst 1, 1) := by decide +kernel
theorem dX2_does_64 : decode cX2_does 64 = .ok (.goto 4, 3) := by decide +kernel
theorem dX2_does_67 : decode cX2_does 67 = .ok (.iconst 0, 1) := by decide +kernel
theorem dX2_does_68 : decode cX2_does 68 = .ok (.ireturn, 1) := by decide +kernel
theorem dX2_thenJob_0 : decode cX2_thenJob 0 = .ok (.aload_n 0, 1) := by decide +kernel
theorem dX2_thenJob_1 : decode cX2_thenJob 1 = .ok (.iload_n 2, 1) := by decide +kernel
theorem dX2_thenJob_2 : decode cX2_thenJob 2 = .ok (.invokevirtual 152, 3) := by decide +kernel
theorem dX2_thenJob_5 : decode cX2_thenJob 5 = .ok (.istore_n 3, 1) := by decide +kernel
theorem dX2_thenJob_6 : decode cX2_thenJob 6 = .ok (.aload_n 0, 1) := by decide +kernel
theorem dX2_thenJob_7 : decode cX2_thenJob 7 = .ok (.getfield 7, 3) := by decide +kernel
theorem dX2_thenJob_10 : decode cX2_thenJob 10 = .ok (.iload_n 1, 1) := by decide +kernel
theorem dX2_thenJob_11 : decode cX2_thenJob 11 = .ok (.iaload, 1) := by decide +kernel
theorem dX2_thenJob_12 : decode cX2_thenJob 12 = .ok (.ifCond .ne 14, 3) := by decide +kernel
theorem dX2_thenJob_15 : decode cX2_thenJob 15 = .ok (.aload_n 0, 1) := by decide +kernel
theorem dX2_thenJob_16 : decode cX2_thenJob 16 = .ok (.iload_n 1, 1) := by decide +kernel
theorem dX2_thenJob_17 : decode cX2_thenJob 17 = .ok (.iconst 2, 1) := by decide +kernel
theorem dX2_thenJob_18 : decode cX2_thenJob 18 = .ok (.iload_n 3, 1) := by decide +kernel
theorem dX2_thenJob_19 : decode cX2_thenJob 19 = .ok (.iconst 3, 1) := by decide +kernel
theorem dX2_thenJob_20 : decode cX2_thenJob 20 = .ok (.iload_n 3, 1) := by decide +kernel
theorem dX2_thenJob_21 : decode cX2_thenJob 21 = .ok (.invokevirtual 220, 3) := by decide +kernel
theorem dX2_thenJob_24 : decode cX2_thenJob 24 = .ok (.pop, 1) := by decide +kernel
theorem dX2_thenJob_25 : decode cX2_thenJob 25 = .ok (.return_, 1) := by decide +kernel
theorem dX2_thenJob_26 : decode cX2_thenJob 26 = .ok (.aload_n 0, 1) := by decide +kernel
theorem dX2_thenJob_27 : decode cX2_thenJob 27 = .ok (.iload_n 1, 1) := by decide +kernel
theorem dX2_thenJob_28 : decode cX2_thenJob 28 = .ok (.invokestatic 155, 3) := by decide +kernel
theorem dX2_thenJob_31 : decode cX2_thenJob 31 = .ok (.iconst (-1), 1) := by decide +kernel
theorem dX2_thenJob_32 : decode cX2_thenJob 32 = .ok (.invokevirtual 190, 3) := by decide +kernel
theorem dX2_thenJob_35 : decode cX2_thenJob 35 = .ok (.aload_n 0, 1) := by decide +kernel
theorem dX2_thenJob_36 : decode cX2_thenJob 36 = .ok (.iload_n 1, 1) := by decide +kernel
theorem dX2_thenJob_37 : decode cX2_thenJob 37 = .ok (.aload_n 0, 1) := by decide +kernel
theorem dX2_thenJob_38 : decode cX2_thenJob 38 = .ok (.getfield 32, 3) := by decide +kernel
theorem dX2_thenJob_41 : decode cX2_thenJob 41 = .ok (.iload_n 1, 1) := by decide +kernel
theorem dX2_thenJob_42 : decode cX2_thenJob 42 = .ok (.iaload, 1) := by decide +kernel
theorem dX2_thenJob_43 : decode cX2_thenJob 43 = .ok (.aload_n 0, 1) := by decide +kernel
theorem dX2_thenJob_44 : decode cX2_thenJob 44 = .ok (.getfield 35, 3) := by decide +kernel
theorem dX2_thenJob_47 : decode cX2_thenJob 47 = .ok (.iload_n 1, 1) := by decide +kernel
theorem dX2_thenJob_48 : decode cX2_thenJob 48 = .ok (.iaload, 1) := by decide +kernel
theorem dX2_thenJob_49 : decode cX2_thenJob 49 = .ok (.iload_n 3, 1) := by decide +kernel
theorem dX2_thenJob_50 : decode cX2_thenJob 50 = .ok (.invokevirtual 240, 3) := by decide +kernel
theorem dX2_thenJob_53 : decode cX2_thenJob 53 = .ok (.ifCond .ne 22, 3) := by decide +kernel
theorem dX2_thenJob_56 : decode cX2_thenJob 56 = .ok (.aload_n 0, 1) := by decide +kernel
theorem dX2_thenJob_57 : decode cX2_thenJob 57 = .ok (.iload_n 1, 1) := by decide +kernel
theorem dX2_thenJob_58 : decode cX2_thenJob 58 = .ok (.aload_n 0, 1) := by decide +kernel
theorem dX2_thenJob_59 : decode cX2_thenJob 59 = .ok (.getfield 38, 3) := by decide +kernel
theorem dX2_thenJob_62 : decode cX2_thenJob 62 = .ok (.iload_n 1, 1) := by decide +kernel
theorem dX2_thenJob_63 : decode cX2_thenJob 63 = .ok (.iaload, 1) := by decide +kernel
theorem dX2_thenJob_64 : decode cX2_thenJob 64 = .ok (.aload_n 0, 1) := by decide +kernel
theorem dX2_thenJob_65 : decode cX2_thenJob 65 = .ok (.getfield 41, 3) := by decide +kernel
theorem dX2_thenJob_68 : decode cX2_thenJob 68 = .ok (.iload_n 1, 1) := by decide +kernel
theorem dX2_thenJob_69 : decode cX2_thenJob 69 = .ok (.iaload, 1) := by decide +kernel
theorem dX2_thenJob_70 : decode cX2_thenJob 70 = .ok (.iload_n 3, 1) := by decide +kernel
theorem dX2_thenJob_71 : decode cX2_thenJob 71 = .ok (.invokevirtual 240, 3) := by decide +kernel
theorem dX2_thenJob_74 : decode cX2_thenJob 74 = .ok (.pop, 1) := by decide +kernel
theorem dX2_thenJob_75 : decode cX2_thenJob 75 = .ok (.return_, 1) := by decide +kernel
theorem dX2_job_0 : decode cX2_job 0 = .ok (.aload_n 0, 1) := by decide +kernel
theorem dX2_job_1 : decode cX2_job 1 = .ok (.getfield 231, 3) := by decide +kernel
theorem dX2_job_4 : decode cX2_job 4 = .ok (.istore_n 1, 1) := by decide +kernel
theorem dX2_job_5 : decode cX2_job 5 = .ok (.aload_n 0, 1) := by decide +kernel
theorem dX2_job_6 : decode cX2_job 6 = .ok (.dup, 1) := by decide +kernel
theorem dX2_job_7 : decode cX2_job 7 = .ok (.getfield 231, 3) := by decide +kernel
theorem dX2_job_10 : decode cX2_job 10 = .ok (.iconst 1, 1) := by decide +kernel
theorem dX2_job_11 : decode cX2_job 11 = .ok (.iadd, 1) := by decide +kernel
theorem dX2_job_12 : decode cX2_job 12 = .ok (.putfield 231, 3) := by decide +kernel
theorem dX2_job_15 : decode cX2_job 15 = .ok (.aload_n 0, 1) := by decide +kernel
theorem dX2_job_16 : decode cX2_job 16 = .ok (.getfield 83, 3) := by decide +kernel
theorem dX2_job_19 : decode cX2_job 19 = .ok (.iload_n 1, 1) := by decide +kernel
theorem dX2_job_20 : decode cX2_job 20 = .ok (.baload, 1) := by decide +kernel
theorem dX2_job_21 : decode cX2_job 21 = .ok (.ifCond .eq 20, 3) := by decide +kernel
theorem dX2_job_24 : decode cX2_job 24 = .ok (.aload_n 0, 1) := by decide +kernel
theorem dX2_job_25 : decode cX2_job 25 = .ok (.aload_n 0, 1) := by decide +kernel
theorem dX2_job_26 : decode cX2_job 26 = .ok (.getfield 71, 3) := by decide +kernel
theorem dX2_job_29 : decode cX2_job 29 = .ok (.iload_n 1, 1) := by decide +kernel
theorem dX2_job_30 : decode cX2_job 30 = .ok (.iaload, 1) := by decide +kernel
theorem dX2_job_31 : decode cX2_job 31 = .ok (.aload_n 0, 1) := by decide +kernel
theorem dX2_job_32 : decode cX2_job 32 = .ok (.getfield 74, 3) := by decide +kernel
theorem dX2_job_35 : decode cX2_job 35 = .ok (.iload_n 1, 1) := by decide +kernel
theorem dX2_job_36 : decode cX2_job 36 = .ok (.iaload, 1) := by decide +kernel
theorem dX2_job_37 : decode cX2_job 37 = .ok (.invokevirtual 234, 3) := by decide +kernel
theorem dX2_job_40 : decode cX2_job 40 = .ok (.return_, 1) := by decide +kernel
theorem dX2_job_41 : decode cX2_job 41 = .ok (.aload_n 0, 1) := by decide +kernel
theorem dX2_job_42 : decode cX2_job 42 = .ok (.aload_n 0, 1) := by decide +kernel
theorem dX2_job_43 : decode cX2_job 43 = .ok (.getfield 80, 3) := by decide +kernel
theorem dX2_job_46 : decode cX2_job 46 = .ok (.iload_n 1, 1) := by decide +kernel
theorem dX2_job_47 : decode cX2_job 47 = .ok (.baload, 1) := by decide +kernel
theorem dX2_job_48 : decode cX2_job 48 = .ok (.putfield 193, 3) := by decide +kernel
theorem dX2_job_51 : decode cX2_job 51 = .ok (.aload_n 0, 1) := by decide +kernel
theorem dX2_job_52 : decode cX2_job 52 = .ok (.getfield 77, 3) := by decide +kernel
theorem dX2_job_55 : decode cX2_job 55 = .ok (.iload_n 1, 1) := by decide +kernel
theorem dX2_job_56 : decode cX2_job 56 = .ok (.iaload, 1) := by decide +kernel
theorem dX2_job_57 : decode cX2_job 57 = .ok (.istore_n 2, 1) := by decide +kernel
theorem dX2_job_58 : decode cX2_job 58 = .ok (.aload_n 0, 1) := by decide +kernel
theorem dX2_job_59 : decode cX2_job 59 = .ok (.getfield 68, 3) := by decide +kernel
theorem dX2_job_62 : decode cX2_job 62 = .ok (.iload_n 1, 1) := by decide +kernel
theorem dX2_job_63 : decode cX2_job 63 = .ok (.iaload, 1) := by decide +kernel
theorem dX2_job_64 : decode cX2_job 64 = .ok (.ifCond .eq 21, 3) := by decide +kernel
theorem dX2_job_67 : decode cX2_job 67 = .ok (.aload_n 0, 1) := by decide +kernel
theorem dX2_job_68 : decode cX2_job 68 = .ok (.aload_n 0, 1) := by decide +kernel
theorem dX2_job_69 : decode cX2_job 69 = .ok (.getfield 68, 3) := by decide +kernel
theorem dX2_job_72 : decode cX2_job 72 = .ok (.iload_n 1, 1) := by decide +kernel
theorem dX2_job_73 : decode cX2_job 73 = .ok (.iaload, 1) := by decide +kernel
theorem dX2_job_74 : decode cX2_job 74 = .ok (.aload_n 0, 1) := by decide +kernel
theorem dX2_job_75 : decode cX2_job 75 = .ok (.getfield 71, 3) := by decide +kernel
theorem dX2_job_78 : decode cX2_job 78 = .ok (.iload_n 1, 1) := by decide +kernel
theorem dX2_job_79 : decode cX2_job 79 = .ok (.iaload, 1) := by decide +kernel
theorem dX2_job_80 : decode cX2_job 80 = .ok (.iload_n 2, 1) := by decide +kernel
theorem dX2_job_81 : decode cX2_job 81 = .ok (.invokevirtual 237, 3) := by decide +kernel
theorem dX2_job_84 : decode cX2_job 84 = .ok (.istore_n 2, 1) := by decide +kernel
theorem dX2_job_85 : decode cX2_job 85 = .ok (.aload_n 0, 1) := by decide +kernel
theorem dX2_job_86 : decode cX2_job 86 = .ok (.getfield 74, 3) := by decide +kernel
theorem dX2_job_89 : decode cX2_job 89 = .ok (.iload_n 1, 1) := by decide +kernel
theorem dX2_job_90 : decode cX2_job 90 = .ok (.iaload, 1) := by decide +kernel
theorem dX2_job_91 : decode cX2_job 91 = .ok (.ifCond .ge 4, 3) := by decide +kernel
theorem dX2_job_94 : decode cX2_job 94 = .ok (.return_, 1) := by decide +kernel
theorem dX2_job_95 : decode cX2_job 95 = .ok (.aload_n 0, 1) := by decide +kernel
theorem dX2_job_96 : decode cX2_job 96 = .ok (.getfield 193, 3) := by decide +kernel
theorem dX2_job_99 : decode cX2_job 99 = .ok (.ifCond .eq 17, 3) := by decide +kernel
theorem dX2_job_102 : decode cX2_job 102 = .ok (.aload_n 0, 1) := by decide +kernel
theorem dX2_job_103 : decode cX2_job 103 = .ok (.aload_n 0, 1) := by decide +kernel
theorem dX2_job_104 : decode cX2_job 104 = .ok (.getfield 74, 3) := by decide +kernel
theorem dX2_job_107 : decode cX2_job 107 = .ok (.iload_n 1, 1) := by decide +kernel
theorem dX2_job_108 : decode cX2_job 108 = .ok (.iaload, 1) := by decide +kernel
theorem dX2_job_109 : decode cX2_job 109 = .ok (.iload_n 2, 1) := by decide +kernel
theorem dX2_job_110 : decode cX2_job 110 = .ok (.invokevirtual 197, 3) := by decide +kernel
theorem dX2_job_113 : decode cX2_job 113 = .ok (.goto 14, 3) := by decide +kernel
theorem dX2_job_116 : decode cX2_job 116 = .ok (.aload_n 0, 1) := by decide +kernel
theorem dX2_job_117 : decode cX2_job 117 = .ok (.aload_n 0, 1) := by decide +kernel
theorem dX2_job_118 : decode cX2_job 118 = .ok (.getfield 74, 3) := by decide +kernel
theorem dX2_job_121 : decode cX2_job 121 = .ok (.iload_n 1, 1) := by decide +kernel
theorem dX2_job_122 : decode cX2_job 122 = .ok (.iaload, 1) := by decide +kernel
theorem dX2_job_123 : decode cX2_job 123 = .ok (.iload_n 2, 1) := by decide +kernel
theorem dX2_job_124 : decode cX2_job 124 = .ok (.invokevirtual 183, 3) := by decide +kernel
theorem dX2_job_127 : decode cX2_job 127 = .ok (.return_, 1) := by decide +kernel
theorem dX2_group_0 : decode cX2_group 0 = .ok (.aload_n 0, 1) := by decide +kernel
theorem dX2_group_1 : decode cX2_group 1 = .ok (.getfield 248, 3) := by decide +kernel
theorem dX2_group_4 : decode cX2_group 4 = .ok (.istore_n 1, 1) := by decide +kernel
theorem dX2_group_5 : decode cX2_group 5 = .ok (.aload_n 0, 1) := by decide +kernel
theorem dX2_group_6 : decode cX2_group 6 = .ok (.dup, 1) := by decide +kernel
theorem dX2_group_7 : decode cX2_group 7 = .ok (.getfield 248, 3) := by decide +kernel
theorem dX2_group_10 : decode cX2_group 10 = .ok (.iconst 1, 1) := by decide +kernel
theorem dX2_group_11 : decode cX2_group 11 = .ok (.iadd, 1) := by decide +kernel
theorem dX2_group_12 : decode cX2_group 12 = .ok (.putfield 248, 3) := by decide +kernel
theorem dX2_group_15 : decode cX2_group 15 = .ok (.aload_n 0, 1) := by decide +kernel
theorem dX2_group_16 : decode cX2_group 16 = .ok (.getfield 110, 3) := by decide +kernel
theorem dX2_group_19 : decode cX2_group 19 = .ok (.iload_n 1, 1) := by decide +kernel
theorem dX2_group_20 : decode cX2_group 20 = .ok (.aload_n 0, 1) := by decide +kernel
theorem dX2_group_21 : decode cX2_group 21 = .ok (.getfield 217, 3) := by decide +kernel
theorem dX2_group_24 : decode cX2_group 24 = .ok (.iastore, 1) := by decide +kernel
theorem dX2_group_25 : decode cX2_group 25 = .ok (.aload_n 0, 1) := by decide +kernel
theorem dX2_group_26 : decode cX2_group 26 = .ok (.getfield 113, 3) := by decide +kernel
theorem dX2_group_29 : decode cX2_group 29 = .ok (.iload_n 1, 1) := by decide +kernel
theorem dX2_group_30 : decode cX2_group 30 = .ok (.aload_n 0, 1) := by decide +kernel
theorem dX2_group_31 : decode cX2_group 31 = .ok (.getfield 251, 3) := by decide +kernel
theorem dX2_group_34 : decode cX2_group 34 = .ok (.iastore, 1) := by decide +kernel
theorem dX2_group_35 : decode cX2_group 35 = .ok (.iconst 0, 1) := by decide +kernel
theorem dX2_group_36 : decode cX2_group 36 = .ok (.istore_n 2, 1) := by decide +kernel
theorem dX2_group_37 : decode cX2_group 37 = .ok (.iload_n 2, 1) := by decide +kernel
theorem dX2_group_38 : decode cX2_group 38 = .ok (.aload_n 0, 1) := by decide +kernel
theorem dX2_group_39 : decode cX2_group 39 = .ok (.getfield 251, 3) := by decide +kernel
theorem dX2_group_42 : decode cX2_group 42 = .ok (.if_icmp .ge 54, 3) := by decide +kernel
theorem dX2_group_45 : decode cX2_group 45 = .ok (.aload_n 0, 1) := by decide +kernel
theorem dX2_group_46 : decode cX2_group 46 = .ok (.getfield 101, 3) := by decide +kernel
theorem dX2_group_49 : decode cX2_group 49 = .ok (.aload_n 0, 1) := by decide +kernel
theorem dX2_group_50 : decode cX2_group 50 = .ok (.getfield 217, 3) := by decide +kernel
theorem dX2_group_53 : decode cX2_group 53 = .ok (.aload_n 0, 1) := by decide +kernel
theorem dX2_group_54 : decode cX2_group 54 = .ok (.getfield 98, 3) := by decide +kernel
theorem dX2_group_57 : decode cX2_group 57 = .ok (.iload_n 2, 1) := by decide +kernel
theorem dX2_group_58 : decode cX2_group 58 = .ok (.iaload, 1) := by decide +kernel
theorem dX2_group_59 : decode cX2_group 59 = .ok (.iastore, 1) := by decide +kernel
theorem dX2_group_60 : decode cX2_group 60 = .ok (.aload_n 0, 1) := by decide +kernel
theorem dX2_group_61 : decode cX2_group 61 = .ok (.getfield 104, 3) := by decide +kernel
theorem dX2_group_64 : decode cX2_group 64 = .ok (.aload_n 0, 1) := by decide +kernel
theorem dX2_group_65 : decode cX2_group 65 = .ok (.getfield 217, 3) := by decide +kernel
theorem dX2_group_68 : decode cX2_group 68 = .ok (.iload_n 1, 1) := by decide +kernel
theorem dX2_group_69 : decode cX2_group 69 = .ok (.iastore, 1) := by decide +kernel
theorem dX2_group_70 : decode cX2_group 70 = .ok (.aload_n 0, 1) := by decide +kernel
theorem dX2_group_71 : decode cX2_group 71 = .ok (.getfield 107, 3) := by decide +kernel
theorem dX2_group_74 : decode cX2_group 74 = .ok (.aload_n 0, 1) := by decide +kernel
theorem dX2_group_75 : decode cX2_group 75 = .ok (.getfield 217, 3) := by decide +kernel
theorem dX2_group_78 : decode cX2_group 78 = .ok (.iconst 0, 1) := by decide +kernel
theorem dX2_group_79 : decode cX2_group 79 = .ok (.bastore, 1) := by decide +kernel
theorem dX2_group_80 : decode cX2_group 80 = .ok (.aload_n 0, 1) := by decide +kernel
theorem dX2_group_81 : decode cX2_group 81 = .ok (.dup, 1) := by decide +kernel
theorem dX2_group_82 : decode cX2_group 82 = .ok (.getfield 217, 3) := by decide +kernel
theorem dX2_group_85 : decode cX2_group 85 = .ok (.iconst 1, 1) := by decide +kernel
theorem dX2_group_86 : decode cX2_group 86 = .ok (.iadd, 1) := by decide +kernel
theorem dX2_group_87 : decode cX2_group 87 = .ok (.putfield 217, 3) := by decide +kernel
theorem dX2_group_90 : decode cX2_group 90 = .ok (.iinc 2 1, 3) := by decide +kernel
theorem dX2_group_93 : decode cX2_group 93 = .ok (.goto (-56), 3) := by decide +kernel
theorem dX2_group_96 : decode cX2_group 96 = .ok (.aload_n 0, 1) := by decide +kernel
theorem dX2_group_97 : decode cX2_group 97 = .ok (.iconst 0, 1) := by decide +kernel
theorem dX2_group_98 : decode cX2_group 98 = .ok (.putfield 251, 3) := by decide +kernel
theorem dX2_group_101 : decode cX2_group 101 = .ok (.iload_n 1, 1) := by decide +kernel
theorem dX2_group_102 : decode cX2_group 102 = .ok (.ireturn, 1) := by decide +kernel
theorem dX2_promise_0 : decode cX2_promise 0 = .ok (.aload_n 0, 1) := by decide +kernel
theorem dX2_promise_1 : decode cX2_promise 1 = .ok (.iconst 0, 1) := by decide +kernel
theorem dX2_promise_2 : decode cX2_promise 2 = .ok (.putfield 131, 3) := by decide +kernel
theorem dX2_promise_5 : decode cX2_promise 5 = .ok (.aload_n 0, 1) := by decide +kernel
theorem dX2_promise_6 : decode cX2_promise 6 = .ok (.bipush 8, 2) := by decide +kernel
theorem dX2_promise_8 : decode cX2_promise 8 = .ok (.invokevirtual 254, 3) := by decide +kernel
theorem dX2_promise_11 : decode cX2_promise 11 = .ok (.ifCond .eq 9, 3) := by decide +kernel
theorem dX2_promise_14 : decode cX2_promise 14 = .ok (.aload_n 0, 1) := by decide +kernel
theorem dX2_promise_15 : decode cX2_promise 15 = .ok (.iconst 1, 1) := by decide +kernel
theorem dX2_promise_16 : decode cX2_promise 16 = .ok (.invokevirtual 257, 3) := by decide +kernel
theorem dX2_promise_19 : decode cX2_promise 19 = .ok (.ireturn, 1) := by decide +kernel
theorem dX2_promise_20 : decode cX2_promise 20 = .ok (.aload_n 0, 1) := by decide +kernel
theorem dX2_promise_21 : decode cX2_promise 21 = .ok (.invokevirtual 171, 3) := by decide +kernel
theorem dX2_promise_24 : decode cX2_promise 24 = .ok (.istore_n 1, 1) := by decide +kernel
theorem dX2_promise_25 : decode cX2_promise 25 = .ok (.aload_n 0, 1) := by decide +kernel
theorem dX2_promise_26 : decode cX2_promise 26 = .ok (.getfield 44, 3) := by decide +kernel
theorem dX2_promise_29 : decode cX2_promise 29 = .ok (.iload_n 1, 1) := by decide +kernel
theorem dX2_promise_30 : decode cX2_promise 30 = .ok (.iaload, 1) := by decide +kernel
theorem dX2_promise_31 : decode cX2_promise 31 = .ok (.istore_n 2, 1) := by decide +kernel
theorem dX2_promise_32 : decode cX2_promise 32 = .ok (.aload_n 0, 1) := by decide +kernel
theorem dX2_promise_33 : decode cX2_promise 33 = .ok (.getfield 22, 3) := by decide +kernel
theorem dX2_promise_36 : decode cX2_promise 36 = .ok (.iload_n 2, 1) := by decide +kernel
theorem dX2_promise_37 : decode cX2_promise 37 = .ok (.iload_n 1, 1) := by decide +kernel
theorem dX2_promise_38 : decode cX2_promise 38 = .ok (.iastore, 1) := by decide +kernel
theorem dX2_promise_39 : decode cX2_promise 39 = .ok (.iload_n 2, 1) := by decide +kernel
theorem dX2_promise_40 : decode cX2_promise 40 = .ok (.invokestatic 155, 3) := by decide +kernel
theorem dX2_promise_43 : decode cX2_promise 43 = .ok (.ireturn, 1) := by decide +kernel
section WALK
variable {p : Program} {l : Launch} {e : Env} {R : Room} {s : State} {m : MethodId} {args : Array Value} {below : List Frame} {meth : Method} {c : Code} {H : Heap} {locs : List Loc} {cells slots : Nat}
variable {E : Ev} {h0 : Nat} {P0 : Le} {kc0 ks0 : Nat} {S0 : State} {A : Nat → Prop} {P : Le} {ls : Array Slot}
theorem m2_call_J91 {a1 : Int} {a2 : Int} {a3 : Int} {V : Mv} {Q : Int → Mv → Prop} {PX : Px} (X : Cx E 1 h0 P0 kc0 ks0 S0 A p l R s m args meth c cX2_call 4 (some .int) 7) (hM : inM V) (hS : HS E 1 h0 P0 kc0 ks0 (sbs []) A s.heap P (toC V) ZM H locs cells slots) (hl : lv_has ls 4 [(0, .ref h0), (1, .int (I3 a1)), (2, .int (I3 a2)), (3, .int (I3 a3))]) (r1 : inR a1) (r2 : inR a2) (r3 : inR a3) (hw : w2_call_J91 a1 a2 a3 V Q) : W p l e R s m args below meth c H locs cells slots (MQx below (QT E 1 h0 true P0 kc0 ks0 (sbs []) A (QL (fun x V1 Z1 => Z1 = ZM ∧ Q x V1)) (PL PX) s) s) (F0 m 91 ls []) := by
  have hx := X.2.1
  have hb := X.2.2.1
  unfold w2_call_J91 at hw
  refine lv_aload_n hx hb dX2_call_91 rfl (lv_at hl 0 rfl) ?_
  refine lv_iload_n hx hb dX2_call_92 rfl (lv_at hl 1 rfl) ?_
  refine lv_iload_n hx hb dX2_call_93 rfl (lv_at hl 2 rfl) ?_
  refine lv_iload_n hx hb dX2_call_94 rfl (lv_at hl 3 rfl) ?_
  refine z_callV X hS (m2_element r1 r2 r3 hM hw) gv2_204 hy2_element rfl (by omega) (by decide) (sbs_sub rfl) hl.1 (Nat.le_of_ble_eq_true rfl) dX2_call_95 rfl (fun x1 V3 Z6 h2 hM4 hw P5 H locs c1 s1 hP hS => ?_)
  obtain ⟨rfl, hw⟩ := hw
  refine z_iconst hx hb dX2_call_98 ?_
  exact z_ri X hS hM4 (⟨by decide, by decide⟩) ⟨rfl, hw⟩ dX2_call_99
theorem m2_call_J100 {a1 : Int} {a2 : Int} {a3 : Int} {V : Mv} {Q : Int → Mv → Prop} {PX : Px} (X : Cx E 1 h0 P0 kc0 ks0 S0 A p l R s m args meth c cX2_call 4 (some .int) 7) (hM : inM V) (hS : HS E 1 h0 P0 kc0 ks0 (sbs []) A s.heap P (toC V) ZM H locs cells slots) (hl : lv_has ls 4 [(0, .ref h0), (1, .int (I3 a1)), (2, .int (I3 a2)), (3, .int (I3 a3))]) (r1 : inR a1) (r2 : inR a2) (r3 : inR a3) (hw : w2_call_J100 a1 a2 a3 V Q) : W p l e R s m args below meth c H locs cells slots (MQx below (QT E 1 h0 true P0 kc0 ks0 (sbs []) A (QL (fun x V1 Z1 => Z1 = ZM ∧ Q x V1)) (PL PX) s) s) (F0 m 100 ls []) := by
  have hx := X.2.1
  have hb := X.2.2.1
  unfold w2_call_J100 at hw
  refine lv_aload_n hx hb dX2_call_100 rfl (lv_at hl 0 rfl) ?_
  refine lv_iload_n hx hb dX2_call_101 rfl (lv_at hl 1 rfl) ?_
  refine lv_iload_n hx hb dX2_call_102 rfl (lv_at hl 2 rfl) ?_
  refine lv_iload_n hx hb dX2_call_103 rfl (lv_at hl 3 rfl) ?_
  refine z_callI X hS (m2_last r1 r2 r3 hM hw) gv2_207 hy2_last rfl (by omega) (by decide) (sbs_sub rfl) hl.1 (Nat.le_of_ble_eq_true rfl) dX2_call_104 rfl (fun x7 V9 Z12 h8 hM10 hw P11 H locs c1 s1 hP hS => ?_)
  obtain ⟨rfl, hw⟩ := hw
  exact z_ri X hS hM10 h8 ⟨rfl, hw⟩ dX2_call_107
theorem m2_call {a1 : Int} {a2 : Int} {a3 : Int} {V : Mv} {Q : Int → Mv → Prop} {PX : Px} (r1 : inR a1) (r2 : inR a2) (r3 : inR a3) (hM : inM V) (hw : w2_call a1 a2 a3 V Q) : MT l S0 E 1 h0 yX2_call cX2_call 4 (some .int) 7 true (sbs []) [.int (I3 a1), .int (I3 a2), .int (I3 a3)] (toC V) ZM (QL (fun x V1 Z1 => Z1 = ZM ∧ Q x V1)) (PL PX) := by
  refine mt_of Gk1 (by decide) rfl (Nat.le_of_ble_eq_true rfl) ?_
  intro p e s m below meth c A P ls X hS hl
  have hl : lv_has ls 4 [(0, .ref h0), (1, .int (I3 a1)), (2, .int (I3 a2)), (3, .int (I3 a3))] := hl
  have hx := X.2.1
  have hb := X.2.2.1
  unfold w2_call at hw
  refine lv_aload_n hx hb dX2_call_0 rfl (lv_at hl 0 rfl) ?_
  refine z_iconst hx hb dX2_call_1 ?_
  refine z_pz X hS hM f2_51 p2_51 (⟨by decide, by decide⟩) hw dX2_call_2 (fun V13 hM14 hw H locs hS => ?_)
  refine lv_iload_n hx hb dX2_call_5 rfl (lv_at hl 1 rfl) ?_
  refine z_case hw (fun hc hw => ?_) (fun hc1 hw => ?_)
  · refine z_tin (tgt := 68) (a := 1) hx hb r1 hc dX2_call_6 (by decide) (by decide) rfl (by decide) ?_
    refine lv_aload_n hx hb dX2_call_68 rfl (lv_at hl 0 rfl) ?_
    refine lv_iload_n hx hb dX2_call_69 rfl (lv_at hl 2 rfl) ?_
    refine lv_iload_n hx hb dX2_call_70 rfl (lv_at hl 3 rfl) ?_
    refine z_callI X hS (m2_handle r2 r3 hM14 hw) gv2_200 hy2_handle rfl (by omega) (by decide) (sbs_sub rfl) hl.1 (Nat.le_of_ble_eq_true rfl) dX2_call_71 rfl (fun x15 V17 Z20 h16 hM18 hw P19 H locs c1 s1 hP hS => ?_)
    obtain ⟨rfl, hw⟩ := hw
    exact z_ri X hS hM18 h16 ⟨rfl, hw⟩ dX2_call_74
  refine z_case hw (fun hc hw => ?_) (fun hc2 hw => ?_)
  · refine z_tin (tgt := 75) (a := 2) hx hb r1 hc dX2_call_6 (by decide) (by decide) rfl (by decide) ?_
    refine lv_aload_n hx hb dX2_call_75 rfl (lv_at hl 0 rfl) ?_
    refine lv_iload_n hx hb dX2_call_76 rfl (lv_at hl 2 rfl) ?_
    refine lv_iload_n hx hb dX2_call_77 rfl (lv_at hl 3 rfl) ?_
    refine z_callV X hS (m2_resolve r2 r3 hM14 hw) gv2_183 hy2_resolve rfl (by omega) (by decide) (sbs_sub rfl) hl.1 (Nat.le_of_ble_eq_true rfl) dX2_call_78 rfl (fun x21 V23 Z26 h22 hM24 hw P25 H locs c1 s1 hP hS => ?_)
    obtain ⟨rfl, hw⟩ := hw
    refine z_iconst hx hb dX2_call_81 ?_
    exact z_ri X hS hM24 (⟨by decide, by decide⟩) ⟨rfl, hw⟩ dX2_call_82
  refine z_case hw (fun hc hw => ?_) (fun hc3 hw => ?_)
  · refine z_tin (tgt := 83) (a := 3) hx hb r1 hc dX2_call_6 (by decide) (by decide) rfl (by decide) ?_
    refine lv_aload_n hx hb dX2_call_83 rfl (lv_at hl 0 rfl) ?_
    refine lv_iload_n hx hb dX2_call_84 rfl (lv_at hl 2 rfl) ?_
    refine lv_iload_n hx hb dX2_call_85 rfl (lv_at hl 3 rfl) ?_
    refine z_callV X hS (m2_reject r2 r3 hM14 hw) gv2_197 hy2_reject rfl (by omega) (by decide) (sbs_sub rfl) hl.1 (Nat.le_of_ble_eq_true rfl) dX2_call_86 rfl (fun x27 V29 Z32 h28 hM30 hw P31 H locs c1 s1 hP hS => ?_)
    obtain ⟨rfl, hw⟩ := hw
    refine z_iconst hx hb dX2_call_89 ?_
    exact z_ri X hS hM30 (⟨by decide, by decide⟩) ⟨rfl, hw⟩ dX2_call_90
  refine z_case hw (fun hc hw => ?_) (fun hc4 hw => ?_)
  · refine z_tin (tgt := 91) (a := 4) hx hb r1 hc dX2_call_6 (by decide) (by decide) rfl (by decide) ?_
    exact m2_call_J91 X hM14 hS (lv_sub hl [0, 1, 2, 3] rfl) r1 r2 r3 hw
  refine z_case hw (fun hc hw => ?_) (fun hc5 hw => ?_)
  · refine z_tin (tgt := 91) (a := 5) hx hb r1 hc dX2_call_6 (by decide) (by decide) rfl (by decide) ?_
    exact m2_call_J91 X hM14 hS (lv_sub hl [0, 1, 2, 3] rfl) r1 r2 r3 hw
  refine z_case hw (fun hc hw => ?_) (fun hc6 hw => ?_)
  · refine z_tin (tgt := 91) (a := 6) hx hb r1 hc dX2_call_6 (by decide) (by decide) rfl (by decide) ?_
    exact m2_call_J91 X hM14 hS (lv_sub hl [0, 1, 2, 3] rfl) r1 r2 r3 hw
  refine z_case hw (fun hc hw => ?_) (fun hc7 hw => ?_)
  · refine z_tin (tgt := 91) (a := 7) hx hb r1 hc dX2_call_6 (by decide) (by decide) rfl (by decide) ?_
    exact m2_call_J91 X hM14 hS (lv_sub hl [0, 1, 2, 3] rfl) r1 r2 r3 hw
  refine z_case hw (fun hc hw => ?_) (fun hc8 hw => ?_)
  · refine z_tin (tgt := 100) (a := 8) hx hb r1 hc dX2_call_6 (by decide) (by decide) rfl (by decide) ?_
    exact m2_call_J100 X hM14 hS (lv_sub hl [0, 1, 2, 3] rfl) r1 r2 r3 hw
  refine z_case hw (fun hc hw => ?_) (fun hc9 hw => ?_)
  · refine z_tin (tgt := 100) (a := 9) hx hb r1 hc dX2_call_6 (by decide) (by decide) rfl (by decide) ?_
    exact m2_call_J100 X hM14 hS (lv_sub hl [0, 1, 2, 3] rfl) r1 r2 r3 hw
  refine z_case hw (fun hc hw => ?_) (fun hc10 hw => ?_)
  · refine z_tin (tgt := 108) (a := 10) hx hb r1 hc dX2_call_6 (by decide) (by decide) rfl (by decide) ?_
    refine lv_aload_n hx hb dX2_call_108 rfl (lv_at hl 0 rfl) ?_
    refine r_ga X hS f2_39 dX2_call_109 ?_
    refine lv_iload_n hx hb dX2_call_112 rfl (lv_at hl 2 rfl) ?_
    refine z_il X hS a2_39 hw dX2_call_113 (fun hw => ?_)
    exact z_ri X hS hM14 (hM14 39 a2) ⟨rfl, hw⟩ dX2_call_114
  refine z_case hw (fun hc hw => ?_) (fun hc11 hw => ?_)
  · refine z_tin (tgt := 115) (a := 11) hx hb r1 hc dX2_call_6 (by decide) (by decide) rfl (by decide) ?_
    refine lv_aload_n hx hb dX2_call_115 rfl (lv_at hl 0 rfl) ?_
    refine z_iconst hx hb dX2_call_116 ?_
    refine z_pz X hS hM14 f2_51 p2_51 (⟨by decide, by decide⟩) hw dX2_call_117 (fun V33 hM34 hw H locs hS => ?_)
    refine lv_aload_n hx hb dX2_call_120 rfl (lv_at hl 0 rfl) ?_
    refine r_ga X hS f2_39 dX2_call_121 ?_
    refine lv_iload_n hx hb dX2_call_124 rfl (lv_at hl 2 rfl) ?_
    refine z_il X hS a2_39 hw dX2_call_125 (fun hw => ?_)
    exact z_ri X hS hM34 (hM34 39 a2) ⟨rfl, hw⟩ dX2_call_126
  refine z_case hw (fun hc hw => ?_) (fun hc12 hw => ?_)
  · refine z_tin (tgt := 127) (a := 12) hx hb r1 hc dX2_call_6 (by decide) (by decide) rfl (by decide) ?_
    refine lv_aload_n hx hb dX2_call_127 rfl (lv_at hl 0 rfl) ?_
    refine lv_iload_n hx hb dX2_call_128 rfl (lv_at hl 2 rfl) ?_
    refine lv_iload_n hx hb dX2_call_129 rfl (lv_at hl 3 rfl) ?_
    refine z_callV X hS (m2_resume r2 r3 hM14 hw) gv2_211 hy2_resume rfl (by omega) (by decide) (sbs_sub rfl) hl.1 (Nat.le_of_ble_eq_true rfl) dX2_call_130 rfl (fun x35 V37 Z40 h36 hM38 hw P39 H locs c1 s1 hP hS => ?_)
    obtain ⟨rfl, hw⟩ := hw
    refine z_iconst hx hb dX2_call_133 ?_
    exact z_ri X hS hM38 (⟨by decide, by decide⟩) ⟨rfl, hw⟩ dX2_call_134
  refine z_tout (tgt := 135) hx hb r1 dX2_call_6 (by omega) (by decide) ?_
  refine lv_aload_n hx hb dX2_call_135 rfl (lv_at hl 0 rfl) ?_
  refine lv_aload_n hx hb dX2_call_136 rfl (lv_at hl 0 rfl) ?_
  refine r_ga X hS f2_46 dX2_call_137 ?_
  refine lv_iload_n hx hb dX2_call_140 rfl (lv_at hl 2 rfl) ?_
  refine z_il X hS a2_46 hw dX2_call_141 (fun hw => ?_)
  refine lv_iload_n hx hb dX2_call_142 rfl (lv_at hl 3 rfl) ?_
  refine z_callV X hS (m2_reject (hM14 46 a2) r3 hM14 hw) gv2_197 hy2_reject rfl (by omega) (by decide) (sbs_sub rfl) hl.1 (Nat.le_of_ble_eq_true rfl) dX2_call_143 rfl (fun x41 V43 Z46 h42 hM44 hw P45 H locs c1 s1 hP hS => ?_)
  obtain ⟨rfl, hw⟩ := hw
  refine z_iconst hx hb dX2_call_146 ?_
  exact z_ri X hS hM44 (⟨by decide, by decide⟩) ⟨rfl, hw⟩ dX2_call_147
theorem m2_does_J68 {b0 : Int} {V : Mv} {Q : Int → Mv → Prop} {PX : Px} (X : Cx E 1 h0 P0 kc0 ks0 S0 A p l R s m args meth c cX2_does 5 (some .boolean) 4) (hM : inM V) (hS : HS E 1 h0 P0 kc0 ks0 (sbs []) A s.heap P (toC V) ZM H locs cells slots) (hl : lv_has ls 5 []) (sr0 : inR b0) (hw : w2_does_J68 b0 V Q) : W p l e R s m args below meth c H locs cells slots (MQx below (QT E 1 h0 true P0 kc0 ks0 (sbs []) A (QL (fun x V1 Z1 => Z1 = ZM ∧ Q x V1)) (PL PX) s) s) (F0 m 68 ls [.int (I3 b0)]) := by
  have hx := X.2.1
  have hb := X.2.2.1
  unfold w2_does_J68 at hw
  exact z_rz X hS hM sr0 ⟨hw.1, rfl, hw.2⟩ dX2_does_68
theorem m2_does_J58 {a2 : Int} {V : Mv} {Q : Int → Mv → Prop} {PX : Px} (X : Cx E 1 h0 P0 kc0 ks0 S0 A p l R s m args meth c cX2_does 5 (some .boolean) 4) (hM : inM V) (hS : HS E 1 h0 P0 kc0 ks0 (sbs []) A s.heap P (toC V) ZM H locs cells slots) (hl : lv_has ls 5 [(2, .int (I3 a2))]) (r2 : inR a2) (hw : w2_does_J58 a2 V Q) : W p l e R s m args below meth c H locs cells slots (MQx below (QT E 1 h0 true P0 kc0 ks0 (sbs []) A (QL (fun x V1 Z1 => Z1 = ZM ∧ Q x V1)) (PL PX) s) s) (F0 m 58 ls []) := by
  have hx := X.2.1
  have hb := X.2.2.1
  unfold w2_does_J58 at hw
  refine lv_iload_n hx hb dX2_does_58 rfl (lv_at hl 0 rfl) ?_
  refine z_iconst hx hb dX2_does_59 ?_
  refine z_ine (tgt := 67) hx hb r2 (⟨by decide, by decide⟩) hw dX2_does_60 (by decide) (fun hc hw => ?_) (fun hc hw => ?_)
  · refine z_iconst hx hb dX2_does_67 ?_
    exact m2_does_J68 X hM hS (lv_sub hl [] rfl) (⟨by decide, by decide⟩) hw
  · refine z_iconst hx hb dX2_does_63 ?_
    refine lv_goto (tgt := 68) hx hb dX2_does_64 (by decide) ?_
    exact m2_does_J68 X hM hS (lv_sub hl [] rfl) (⟨by decide, by decide⟩) hw
theorem m2_does {a1 : Int} {a2 : Int} {a3 : Int} {a4 : Int} {V : Mv} {Q : Int → Mv → Prop} {PX : Px} (r1 : inR a1) (r2 : inR a2) (r3 : inR a3) (r4 : inR a4) (hM : inM V) (hw : w2_does a1 a2 a3 a4 V Q) : MT l S0 E 1 h0 yX2_does cX2_does 5 (some .boolean) 4 true (sbs []) [.int (I3 a1), .int (I3 a2), .int (I3 a3), .int (I3 a4)] (toC V) ZM (QL (fun x V1 Z1 => Z1 = ZM ∧ Q x V1)) (PL PX) := by
  refine mt_of Gk1 (by decide) rfl (Nat.le_of_ble_eq_true rfl) ?_
  intro p e s m below meth c A P ls X hS hl
  have hl : lv_has ls 5 [(0, .ref h0), (1, .int (I3 a1)), (2, .int (I3 a2)), (3, .int (I3 a3)), (4, .int (I3 a4))] := hl
  have hx := X.2.1
  have hb := X.2.2.1
  unfold w2_does at hw
  refine lv_iload_n hx hb dX2_does_0 rfl (lv_at hl 2 rfl) ?_
  refine z_iconst hx hb dX2_does_1 ?_
  refine z_ine (tgt := 15) hx hb r2 (⟨by decide, by decide⟩) hw dX2_does_2 (by decide) (fun hc hw => ?_) (fun hc hw => ?_)
  · refine lv_iload_n hx hb dX2_does_15 rfl (lv_at hl 2 rfl) ?_
    refine z_iconst hx hb dX2_does_16 ?_
    refine z_ine (tgt := 30) hx hb r2 (⟨by decide, by decide⟩) hw dX2_does_17 (by decide) (fun hc hw => ?_) (fun hc hw => ?_)
    · refine lv_iload_n hx hb dX2_does_30 rfl (lv_at hl 2 rfl) ?_
      refine z_iconst hx hb dX2_does_31 ?_
      refine z_ine (tgt := 45) hx hb r2 (⟨by decide, by decide⟩) hw dX2_does_32 (by decide) (fun hc hw => ?_) (fun hc hw => ?_)
      · refine lv_iload_n hx hb dX2_does_45 rfl (lv_at hl 2 rfl) ?_
        refine z_iconst hx hb dX2_does_46 ?_
        refine z_ine (tgt := 58) hx hb r2 (⟨by decide, by decide⟩) hw dX2_does_47 (by decide) (fun hc hw => ?_) (fun hc hw => ?_)
        · exact m2_does_J58 X hM hS (lv_sub hl [2] rfl) r2 hw
        · refine lv_aload_n hx hb dX2_does_50 rfl (lv_at hl 0 rfl) ?_
          refine r_ga X hS f2_6 dX2_does_51 ?_
          refine lv_iload_n hx hb dX2_does_54 rfl (lv_at hl 1 rfl) ?_
          refine lv_iload hx hb dX2_does_55 (lv_at hl 4 rfl) ?_
          refine z_is X hS hM a2_6 r4 hw dX2_does_57 (fun V1 hM2 hw H locs hS => ?_)
          exact m2_does_J58 X hM2 hS (lv_sub hl [2] rfl) r2 hw
      · refine lv_aload_n hx hb dX2_does_35 rfl (lv_at hl 0 rfl) ?_
        refine lv_iload hx hb dX2_does_36 (lv_at hl 4 rfl) ?_
        refine lv_iload_n hx hb dX2_does_38 rfl (lv_at hl 3 rfl) ?_
        refine z_callV X hS (m2_reject r4 r3 hM hw) gv2_197 hy2_reject rfl (by omega) (by decide) (sbs_sub rfl) hl.1 (Nat.le_of_ble_eq_true rfl) dX2_does_39 rfl (fun x3 V5 Z8 h4 hM6 hw P7 H locs c1 s1 hP hS => ?_)
        obtain ⟨rfl, hw⟩ := hw
        refine lv_goto (tgt := 58) hx hb dX2_does_42 (by decide) ?_
        exact m2_does_J58 X hM6 hS (lv_sub hl [2] rfl) r2 hw
    · refine lv_aload_n hx hb dX2_does_20 rfl (lv_at hl 0 rfl) ?_
      refine lv_iload hx hb dX2_does_21 (lv_at hl 4 rfl) ?_
      refine lv_iload_n hx hb dX2_does_23 rfl (lv_at hl 3 rfl) ?_
      refine z_callV X hS (m2_reject r4 r3 hM hw) gv2_197 hy2_reject rfl (by omega) (by decide) (sbs_sub rfl) hl.1 (Nat.le_of_ble_eq_true rfl) dX2_does_24 rfl (fun x9 V11 Z14 h10 hM12 hw P13 H locs c1 s1 hP hS => ?_)
      obtain ⟨rfl, hw⟩ := hw
      refine lv_goto (tgt := 58) hx hb dX2_does_27 (by decide) ?_
      exact m2_does_J58 X hM12 hS (lv_sub hl [2] rfl) r2 hw
  · refine lv_aload_n hx hb dX2_does_5 rfl (lv_at hl 0 rfl) ?_
    refine lv_iload hx hb dX2_does_6 (lv_at hl 4 rfl) ?_
    refine lv_iload_n hx hb dX2_does_8 rfl (lv_at hl 3 rfl) ?_
    refine z_callV X hS (m2_resolve r4 r3 hM hw) gv2_183 hy2_resolve rfl (by omega) (by decide) (sbs_sub rfl) hl.1 (Nat.le_of_ble_eq_true rfl) dX2_does_9 rfl (fun x15 V17 Z20 h16 hM18 hw P19 H locs c1 s1 hP hS => ?_)
    obtain ⟨rfl, hw⟩ := hw
    refine lv_goto (tgt := 58) hx hb dX2_does_12 (by decide) ?_
    exact m2_does_J58 X hM18 hS (lv_sub hl [2] rfl) r2 hw
theorem m2_thenJob_J75 {V : Mv} {Q : Int → Mv → Prop} {PX : Px} (X : Cx E 1 h0 P0 kc0 ks0 S0 A p l R s m args meth c cX2_thenJob 4 none 5) (hM : inM V) (hS : HS E 1 h0 P0 kc0 ks0 (sbs []) A s.heap P (toC V) ZM H locs cells slots) (hl : lv_has ls 4 []) (hw : w2_thenJob_J75  V Q) : W p l e R s m args below meth c H locs cells slots (MQx below (QT E 1 h0 false P0 kc0 ks0 (sbs []) A (QL (fun x V1 Z1 => Z1 = ZM ∧ Q x V1)) (PL PX) s) s) (F0 m 75 ls []) := by
  have hx := X.2.1
  have hb := X.2.2.1
  unfold w2_thenJob_J75 at hw
  exact z_rv X hS hM ⟨rfl, hw⟩ dX2_thenJob_75
theorem m2_thenJob {a1 : Int} {a2 : Int} {V : Mv} {Q : Int → Mv → Prop} {PX : Px} (r1 : inR a1) (r2 : inR a2) (hM : inM V) (hw : w2_thenJob a1 a2 V Q) : MT l S0 E 1 h0 yX2_thenJob cX2_thenJob 4 none 5 false (sbs []) [.int (I3 a1), .int (I3 a2)] (toC V) ZM (QL (fun x V1 Z1 => Z1 = ZM ∧ Q x V1)) (PL PX) := by
  refine mt_of Gk1 (by decide) rfl (Nat.le_of_ble_eq_true rfl) ?_
  intro p e s m below meth c A P ls X hS hl
  have hl : lv_has ls 4 [(0, .ref h0), (1, .int (I3 a1)), (2, .int (I3 a2))] := hl
  have hx := X.2.1
  have hb := X.2.2.1
  unfold w2_thenJob at hw
  refine lv_aload_n hx hb dX2_thenJob_0 rfl (lv_at hl 0 rfl) ?_
  refine lv_iload_n hx hb dX2_thenJob_1 rfl (lv_at hl 2 rfl) ?_
  refine z_callI X hS (m2_record r2 hM hw) gv2_152 hy2_record rfl (by omega) (by decide) (sbs_sub rfl) hl.1 (Nat.le_of_ble_eq_true rfl) dX2_thenJob_2 rfl (fun x1 V3 Z6 h2 hM4 hw P5 H locs c1 s1 hP hS => ?_)
  obtain ⟨rfl, hw⟩ := hw
  refine lv_istore_n (lv' := [(3, .int (I3 x1)), (0, .ref h0), (1, .int (I3 a1)), (2, .int (I3 a2))]) hx hb dX2_thenJob_5 rfl hl (by decide) rfl (fun ls hl => ?_)
  refine lv_aload_n hx hb dX2_thenJob_6 rfl (lv_at hl 1 rfl) ?_
  refine r_ga X hS f2_2 dX2_thenJob_7 ?_
  refine lv_iload_n hx hb dX2_thenJob_10 rfl (lv_at hl 2 rfl) ?_
  refine z_il X hS a2_2 hw dX2_thenJob_11 (fun hw => ?_)
  refine z_zne (tgt := 26) hx hb (hM4 2 a1) hw dX2_thenJob_12 (by decide) (fun hc hw => ?_) (fun hc hw => ?_)
  · refine lv_aload_n hx hb dX2_thenJob_26 rfl (lv_at hl 1 rfl) ?_
    refine lv_iload_n hx hb dX2_thenJob_27 rfl (lv_at hl 2 rfl) ?_
    refine z_vo2 X hS hw gs2_155 (by omega) hl.1 (Nat.le_of_ble_eq_true rfl) dX2_thenJob_28 (fun h7 hw => ?_)
    refine z_iconst hx hb dX2_thenJob_31 ?_
    refine z_callV X hS (m2_note h7 (⟨by decide, by decide⟩) hM4 hw) gv2_190 hy2_note rfl (by omega) (by decide) (sbs_sub rfl) hl.1 (Nat.le_of_ble_eq_true rfl) dX2_thenJob_32 rfl (fun x8 V10 Z13 h9 hM11 hw P12 H locs c1 s1 hP hS => ?_)
    obtain ⟨rfl, hw⟩ := hw
    refine lv_aload_n hx hb dX2_thenJob_35 rfl (lv_at hl 1 rfl) ?_
    refine lv_iload_n hx hb dX2_thenJob_36 rfl (lv_at hl 2 rfl) ?_
    refine lv_aload_n hx hb dX2_thenJob_37 rfl (lv_at hl 1 rfl) ?_
    refine r_ga X hS f2_9 dX2_thenJob_38 ?_
    refine lv_iload_n hx hb dX2_thenJob_41 rfl (lv_at hl 2 rfl) ?_
    refine z_il X hS a2_9 hw dX2_thenJob_42 (fun hw => ?_)
    refine lv_aload_n hx hb dX2_thenJob_43 rfl (lv_at hl 1 rfl) ?_
    refine r_ga X hS f2_10 dX2_thenJob_44 ?_
    refine lv_iload_n hx hb dX2_thenJob_47 rfl (lv_at hl 2 rfl) ?_
    refine z_il X hS a2_10 hw dX2_thenJob_48 (fun hw => ?_)
    refine lv_iload_n hx hb dX2_thenJob_49 rfl (lv_at hl 0 rfl) ?_
    refine z_callI X hS (m2_does r1 (hM11 9 a1) (hM11 10 a1) h2 hM11 hw) gv2_240 hy2_does rfl (by omega) (by decide) (sbs_sub rfl) hl.1 (Nat.le_of_ble_eq_true rfl) dX2_thenJob_50 rfl (fun x14 V16 Z19 h15 hM17 hw P18 H locs c1 s1 hP hS => ?_)
    obtain ⟨rfl, hw⟩ := hw
    refine z_zne (tgt := 75) hx hb h15 hw dX2_thenJob_53 (by decide) (fun hc hw => ?_) (fun hc hw => ?_)
    · exact m2_thenJob_J75 X hM17 hS (lv_sub hl [] rfl)  hw
    · refine lv_aload_n hx hb dX2_thenJob_56 rfl (lv_at hl 1 rfl) ?_
      refine lv_iload_n hx hb dX2_thenJob_57 rfl (lv_at hl 2 rfl) ?_
      refine lv_aload_n hx hb dX2_thenJob_58 rfl (lv_at hl 1 rfl) ?_
      refine r_ga X hS f2_11 dX2_thenJob_59 ?_
      refine lv_iload_n hx hb dX2_thenJob_62 rfl (lv_at hl 2 rfl) ?_
      refine z_il X hS a2_11 hw dX2_thenJob_63 (fun hw => ?_)
      refine lv_aload_n hx hb dX2_thenJob_64 rfl (lv_at hl 1 rfl) ?_
      refine r_ga X hS f2_12 dX2_thenJob_65 ?_
      refine lv_iload_n hx hb dX2_thenJob_68 rfl (lv_at hl 2 rfl) ?_
      refine z_il X hS a2_12 hw dX2_thenJob_69 (fun hw => ?_)
      refine lv_iload_n hx hb dX2_thenJob_70 rfl (lv_at hl 0 rfl) ?_
      refine z_callI X hS (m2_does r1 (hM17 11 a1) (hM17 12 a1) h2 hM17 hw) gv2_240 hy2_does rfl (by omega) (by decide) (sbs_sub rfl) hl.1 (Nat.le_of_ble_eq_true rfl) dX2_thenJob_71 rfl (fun x20 V22 Z25 h21 hM23 hw P24 H locs c1 s1 hP hS => ?_)
      obtain ⟨rfl, hw⟩ := hw
      refine lv_pop hx hb dX2_thenJob_74 rfl ?_
      exact m2_thenJob_J75 X hM23 hS (lv_sub hl [] rfl)  hw
  · refine lv_aload_n hx hb dX2_thenJob_15 rfl (lv_at hl 1 rfl) ?_
    refine lv_iload_n hx hb dX2_thenJob_16 rfl (lv_at hl 2 rfl) ?_
    refine z_iconst hx hb dX2_thenJob_17 ?_
    refine lv_iload_n hx hb dX2_thenJob_18 rfl (lv_at hl 0 rfl) ?_
    refine z_iconst hx hb dX2_thenJob_19 ?_
    refine lv_iload_n hx hb dX2_thenJob_20 rfl (lv_at hl 0 rfl) ?_
    refine z_callI X hS (m2_then_2 r1 (⟨by decide, by decide⟩) h2 (⟨by decide, by decide⟩) h2 hM4 hw) gv2_220 hy2_then_2 rfl (by omega) (by decide) (sbs_sub rfl) hl.1 (Nat.le_of_ble_eq_true rfl) dX2_thenJob_21 rfl (fun x26 V28 Z31 h27 hM29 hw P30 H locs c1 s1 hP hS => ?_)
    obtain ⟨rfl, hw⟩ := hw
    refine lv_pop hx hb dX2_thenJob_24 rfl ?_
    exact z_rv X hS hM29 ⟨rfl, hw⟩ dX2_thenJob_25
theorem m2_job_J127 {V : Mv} {Q : Int → Mv → Prop} {PX : Px} (X : Cx E 1 h0 P0 kc0 ks0 S0 A p l R s m args meth c cX2_job 3 none 8) (hM : inM V) (hS : HS E 1 h0 P0 kc0 ks0 (sbs []) A s.heap P (toC V) ZM H locs cells slots) (hl : lv_has ls 3 []) (hw : w2_job_J127  V Q) : W p l e R s m args below meth c H locs cells slots (MQx below (QT E 1 h0 false P0 kc0 ks0 (sbs []) A (QL (fun x V1 Z1 => Z1 = ZM ∧ Q x V1)) (PL PX) s) s) (F0 m 127 ls []) := by
  have hx := X.2.1
  have hb := X.2.2.1
  unfold w2_job_J127 at hw
  exact z_rv X hS hM ⟨rfl, hw⟩ dX2_job_127
theorem m2_job_J85 {a1 : Int} {a2 : Int} {V : Mv} {Q : Int → Mv → Prop} {PX : Px} (X : Cx E 1 h0 P0 kc0 ks0 S0 A p l R s m args meth c cX2_job 3 none 8) (hM : inM V) (hS : HS E 1 h0 P0 kc0 ks0 (sbs []) A s.heap P (toC V) ZM H locs cells slots) (hl : lv_has ls 3 [(0, .ref h0), (1, .int (I3 a1)), (2, .int (I3 a2))]) (r1 : inR a1) (r2 : inR a2) (hw : w2_job_J85 a1 a2 V Q) : W p l e R s m args below meth c H locs cells slots (MQx below (QT E 1 h0 false P0 kc0 ks0 (sbs []) A (QL (fun x V1 Z1 => Z1 = ZM ∧ Q x V1)) (PL PX) s) s) (F0 m 85 ls []) := by
  have hx := X.2.1
  have hb := X.2.2.1
  unfold w2_job_J85 at hw
  refine lv_aload_n hx hb dX2_job_85 rfl (lv_at hl 0 rfl) ?_
  refine r_ga X hS f2_25 dX2_job_86 ?_
  refine lv_iload_n hx hb dX2_job_89 rfl (lv_at hl 1 rfl) ?_
  refine z_il X hS a2_25 hw dX2_job_90 (fun hw => ?_)
  refine z_zge (tgt := 95) hx hb (hM 25 a1) hw dX2_job_91 (by decide) (fun hc hw => ?_) (fun hc hw => ?_)
  · refine lv_aload_n hx hb dX2_job_95 rfl (lv_at hl 0 rfl) ?_
    refine z_gi X hS f2_51 dX2_job_96 ?_
    refine z_zeq (tgt := 116) hx hb (hM 51 0) hw dX2_job_99 (by decide) (fun hc hw => ?_) (fun hc hw => ?_)
    · refine lv_aload_n hx hb dX2_job_116 rfl (lv_at hl 0 rfl) ?_
      refine lv_aload_n hx hb dX2_job_117 rfl (lv_at hl 0 rfl) ?_
      refine r_ga X hS f2_25 dX2_job_118 ?_
      refine lv_iload_n hx hb dX2_job_121 rfl (lv_at hl 1 rfl) ?_
      refine z_il X hS a2_25 hw dX2_job_122 (fun hw => ?_)
      refine lv_iload_n hx hb dX2_job_123 rfl (lv_at hl 2 rfl) ?_
      refine z_callV X hS (m2_resolve (hM 25 a1) r2 hM hw) gv2_183 hy2_resolve rfl (by omega) (by decide) (sbs_sub rfl) hl.1 (Nat.le_of_ble_eq_true rfl) dX2_job_124 rfl (fun x1 V3 Z6 h2 hM4 hw P5 H locs c1 s1 hP hS => ?_)
      obtain ⟨rfl, hw⟩ := hw
      exact m2_job_J127 X hM4 hS (lv_sub hl [] rfl)  hw
    · refine lv_aload_n hx hb dX2_job_102 rfl (lv_at hl 0 rfl) ?_
      refine lv_aload_n hx hb dX2_job_103 rfl (lv_at hl 0 rfl) ?_
      refine r_ga X hS f2_25 dX2_job_104 ?_
      refine lv_iload_n hx hb dX2_job_107 rfl (lv_at hl 1 rfl) ?_
      refine z_il X hS a2_25 hw dX2_job_108 (fun hw => ?_)
      refine lv_iload_n hx hb dX2_job_109 rfl (lv_at hl 2 rfl) ?_
      refine z_callV X hS (m2_reject (hM 25 a1) r2 hM hw) gv2_197 hy2_reject rfl (by omega) (by decide) (sbs_sub rfl) hl.1 (Nat.le_of_ble_eq_true rfl) dX2_job_110 rfl (fun x7 V9 Z12 h8 hM10 hw P11 H locs c1 s1 hP hS => ?_)
      obtain ⟨rfl, hw⟩ := hw
      refine lv_goto (tgt := 127) hx hb dX2_job_113 (by decide) ?_
      exact m2_job_J127 X hM10 hS (lv_sub hl [] rfl)  hw
  · exact z_rv X hS hM ⟨rfl, hw⟩ dX2_job_94
theorem m2_job {V : Mv} {Q : Int → Mv → Prop} {PX : Px} (hM : inM V) (hw : w2_job  V Q) : MT l S0 E 1 h0 yX2_job cX2_job 3 none 8 false (sbs []) [] (toC V) ZM (QL (fun x V1 Z1 => Z1 = ZM ∧ Q x V1)) (PL PX) := by
  refine mt_of Gk1 (by decide) rfl (Nat.le_of_ble_eq_true rfl) ?_
  intro p e s m below meth c A P ls X hS hl
  have hl : lv_has ls 3 [(0, .ref h0)] := hl
  have hx := X.2.1
  have hb := X.2.2.1
  unfold w2_job at hw
  refine lv_aload_n hx hb dX2_job_0 rfl (lv_at hl 0 rfl) ?_
  refine z_gi X hS f2_29 dX2_job_1 ?_
  refine lv_istore_n (lv' := [(1, .int (I3 (V 29 0))), (0, .ref h0)]) hx hb dX2_job_4 rfl hl (by decide) rfl (fun ls hl => ?_)
  refine lv_aload_n hx hb dX2_job_5 rfl (lv_at hl 1 rfl) ?_
  refine lv_dup hx hb dX2_job_6 rfl ?_
  refine z_gi X hS f2_29 dX2_job_7 ?_
  refine z_iconst hx hb dX2_job_10 ?_
  refine z_add hx hb hw dX2_job_11 (fun h13 hw => ?_)
  refine z_pi X hS hM f2_29 p2_29 h13 hw dX2_job_12 (fun V14 hM15 hw H locs hS => ?_)
  refine lv_aload_n hx hb dX2_job_15 rfl (lv_at hl 1 rfl) ?_
  refine r_ga X hS f2_28 dX2_job_16 ?_
  refine lv_iload_n hx hb dX2_job_19 rfl (lv_at hl 0 rfl) ?_
  refine z_zl X hS a2_28 hw dX2_job_20 (fun hw => ?_)
  refine z_zeq (tgt := 41) hx hb (hM15 28 (V 29 0)) hw dX2_job_21 (by decide) (fun hc hw => ?_) (fun hc hw => ?_)
  · refine lv_aload_n hx hb dX2_job_41 rfl (lv_at hl 1 rfl) ?_
    refine lv_aload_n hx hb dX2_job_42 rfl (lv_at hl 1 rfl) ?_
    refine r_ga X hS f2_27 dX2_job_43 ?_
    refine lv_iload_n hx hb dX2_job_46 rfl (lv_at hl 0 rfl) ?_
    refine z_zl X hS a2_27 hw dX2_job_47 (fun hw => ?_)
    refine z_pz X hS hM15 f2_51 p2_51 (hM15 27 (V 29 0)) hw dX2_job_48 (fun V16 hM17 hw H locs hS => ?_)
    refine lv_aload_n hx hb dX2_job_51 rfl (lv_at hl 1 rfl) ?_
    refine r_ga X hS f2_26 dX2_job_52 ?_
    refine lv_iload_n hx hb dX2_job_55 rfl (lv_at hl 0 rfl) ?_
    refine z_il X hS a2_26 hw dX2_job_56 (fun hw => ?_)
    refine lv_istore_n (lv' := [(2, .int (I3 (V16 26 (V 29 0)))), (1, .int (I3 (V 29 0))), (0, .ref h0)]) hx hb dX2_job_57 rfl hl (by decide) rfl (fun ls hl => ?_)
    refine lv_aload_n hx hb dX2_job_58 rfl (lv_at hl 2 rfl) ?_
    refine r_ga X hS f2_23 dX2_job_59 ?_
    refine lv_iload_n hx hb dX2_job_62 rfl (lv_at hl 1 rfl) ?_
    refine z_il X hS a2_23 hw dX2_job_63 (fun hw => ?_)
    refine z_zeq (tgt := 85) hx hb (hM17 23 (V 29 0)) hw dX2_job_64 (by decide) (fun hc hw => ?_) (fun hc hw => ?_)
    · exact m2_job_J85 X hM17 hS (lv_sub hl [2, 1, 0] rfl) (hM 29 0) (hM17 26 (V 29 0)) hw
    · refine lv_aload_n hx hb dX2_job_67 rfl (lv_at hl 2 rfl) ?_
      refine lv_aload_n hx hb dX2_job_68 rfl (lv_at hl 2 rfl) ?_
      refine r_ga X hS f2_23 dX2_job_69 ?_
      refine lv_iload_n hx hb dX2_job_72 rfl (lv_at hl 1 rfl) ?_
      refine z_il X hS a2_23 hw dX2_job_73 (fun hw => ?_)
      refine lv_aload_n hx hb dX2_job_74 rfl (lv_at hl 2 rfl) ?_
      refine r_ga X hS f2_24 dX2_job_75 ?_
      refine lv_iload_n hx hb dX2_job_78 rfl (lv_at hl 1 rfl) ?_
      refine z_il X hS a2_24 hw dX2_job_79 (fun hw => ?_)
      refine lv_iload_n hx hb dX2_job_80 rfl (lv_at hl 0 rfl) ?_
      refine z_callI X hS (m2_call (hM17 23 (V 29 0)) (hM17 24 (V 29 0)) (hM17 26 (V 29 0)) hM17 hw) gv2_237 hy2_call rfl (by omega) (by decide) (sbs_sub rfl) hl.1 (Nat.le_of_ble_eq_true rfl) dX2_job_81 rfl (fun x18 V20 Z23 h19 hM21 hw P22 H locs c1 s1 hP hS => ?_)
      obtain ⟨rfl, hw⟩ := hw
      refine lv_istore_n (lv' := [(2, .int (I3 x18)), (1, .int (I3 (V 29 0))), (0, .ref h0)]) hx hb dX2_job_84 rfl hl (by decide) rfl (fun ls hl => ?_)
      exact m2_job_J85 X hM21 hS (lv_sub hl [2, 1, 0] rfl) (hM 29 0) h19 hw
  · refine lv_aload_n hx hb dX2_job_24 rfl (lv_at hl 1 rfl) ?_
    refine lv_aload_n hx hb dX2_job_25 rfl (lv_at hl 1 rfl) ?_
    refine r_ga X hS f2_24 dX2_job_26 ?_
    refine lv_iload_n hx hb dX2_job_29 rfl (lv_at hl 0 rfl) ?_
    refine z_il X hS a2_24 hw dX2_job_30 (fun hw => ?_)
    refine lv_aload_n hx hb dX2_job_31 rfl (lv_at hl 1 rfl) ?_
    refine r_ga X hS f2_25 dX2_job_32 ?_
    refine lv_iload_n hx hb dX2_job_35 rfl (lv_at hl 0 rfl) ?_
    refine z_il X hS a2_25 hw dX2_job_36 (fun hw => ?_)
    refine z_callV X hS (m2_thenJob (hM15 24 (V 29 0)) (hM15 25 (V 29 0)) hM15 hw) gv2_234 hy2_thenJob rfl (by omega) (by decide) (sbs_sub rfl) hl.1 (Nat.le_of_ble_eq_true rfl) dX2_job_37 rfl (fun x24 V26 Z29 h25 hM27 hw P28 H locs c1 s1 hP hS => ?_)
    obtain ⟨rfl, hw⟩ := hw
    exact z_rv X hS hM27 ⟨rfl, hw⟩ dX2_job_40
theorem m2_group_L37 {Q : Int → Mv → Prop} {PX : Px} (X : Cx E 1 h0 P0 kc0 ks0 S0 A p l R s m args meth c cX2_group 3 (some .int) 1) : ∀ n, ∀ {a1 : Int} {a2 : Int} {V : Mv} {P : Le} {H : Heap} {locs : List Loc} {cells slots : Nat} {ls : Array Slot}, inM V → HS E 1 h0 P0 kc0 ks0 (sbs []) A s.heap P (toC V) ZM H locs cells slots → lv_has ls 3 [(0, .ref h0), (1, .int (I3 a1)), (2, .int (I3 a2))] → inR a1 → inR a2 → w2_group_L37 Q n a1 a2 V → W p l e R s m args below meth c H locs cells slots (MQx below (QT E 1 h0 true P0 kc0 ks0 (sbs []) A (QL (fun x V1 Z1 => Z1 = ZM ∧ Q x V1)) (PL PX) s) s) (F0 m 37 ls []) := by
  have hx := X.2.1
  have hb := X.2.2.1
  intro n
  induction n with
  | zero => intros; rename_i hw; exact hw.elim
  | succ n ih =>
    intro a1 a2 V P H locs cells slots ls hM hS hl r1 r2 hw
    unfold w2_group_L37 at hw
    refine lv_iload_n hx hb dX2_group_37 rfl (lv_at hl 2 rfl) ?_
    refine lv_aload_n hx hb dX2_group_38 rfl (lv_at hl 0 rfl) ?_
    refine z_gi X hS f2_38 dX2_group_39 ?_
    refine z_ige (tgt := 96) hx hb r2 (hM 38 0) hw dX2_group_42 (by decide) (fun hc hw => ?_) (fun hc hw => ?_)
    · refine lv_aload_n hx hb dX2_group_96 rfl (lv_at hl 0 rfl) ?_
      refine z_iconst hx hb dX2_group_97 ?_
      refine z_pi X hS hM f2_38 p2_38 (⟨by decide, by decide⟩) hw dX2_group_98 (fun V1 hM2 hw H locs hS => ?_)
      refine lv_iload_n hx hb dX2_group_101 rfl (lv_at hl 1 rfl) ?_
      exact z_ri X hS hM2 r1 ⟨rfl, hw⟩ dX2_group_102
    · refine lv_aload_n hx hb dX2_group_45 rfl (lv_at hl 0 rfl) ?_
      refine r_ga X hS f2_39 dX2_group_46 ?_
      refine lv_aload_n hx hb dX2_group_49 rfl (lv_at hl 0 rfl) ?_
      refine z_gi X hS f2_42 dX2_group_50 ?_
      refine lv_aload_n hx hb dX2_group_53 rfl (lv_at hl 0 rfl) ?_
      refine r_ga X hS f2_37 dX2_group_54 ?_
      refine lv_iload_n hx hb dX2_group_57 rfl (lv_at hl 2 rfl) ?_
      refine z_il X hS a2_37 hw dX2_group_58 (fun hw => ?_)
      refine z_is X hS hM a2_39 (hM 37 a2) hw dX2_group_59 (fun V3 hM4 hw H locs hS => ?_)
      refine lv_aload_n hx hb dX2_group_60 rfl (lv_at hl 0 rfl) ?_
      refine r_ga X hS f2_40 dX2_group_61 ?_
      refine lv_aload_n hx hb dX2_group_64 rfl (lv_at hl 0 rfl) ?_
      refine z_gi X hS f2_42 dX2_group_65 ?_
      refine lv_iload_n hx hb dX2_group_68 rfl (lv_at hl 1 rfl) ?_
      refine z_is X hS hM4 a2_40 r1 hw dX2_group_69 (fun V5 hM6 hw H locs hS => ?_)
      refine lv_aload_n hx hb dX2_group_70 rfl (lv_at hl 0 rfl) ?_
      refine r_ga X hS f2_41 dX2_group_71 ?_
      refine lv_aload_n hx hb dX2_group_74 rfl (lv_at hl 0 rfl) ?_
      refine z_gi X hS f2_42 dX2_group_75 ?_
      refine z_iconst hx hb dX2_group_78 ?_
      refine z_zs X hS hM6 a2_41 (⟨by decide, by decide⟩) hw dX2_group_79 (fun V7 hM8 hw H locs hS => ?_)
      refine lv_aload_n hx hb dX2_group_80 rfl (lv_at hl 0 rfl) ?_
      refine lv_dup hx hb dX2_group_81 rfl ?_
      refine z_gi X hS f2_42 dX2_group_82 ?_
      refine z_iconst hx hb dX2_group_85 ?_
      refine z_add hx hb hw dX2_group_86 (fun h9 hw => ?_)
      refine z_pi X hS hM8 f2_42 p2_42 h9 hw dX2_group_87 (fun V10 hM11 hw H locs hS => ?_)
      refine z_inc (k := 2) (lv' := [(2, .int (I3 (a2 + 1))), (0, .ref h0), (1, .int (I3 a1))]) hx hb hw dX2_group_90 hl rfl (by decide) rfl (fun ls hl h12 hw => ?_)
      refine lv_goto (tgt := 37) hx hb dX2_group_93 (by decide) ?_
      exact ih hM11 hS (lv_sub hl [1, 2, 0] rfl) r1 h12 hw
theorem m2_group {V : Mv} {Q : Int → Mv → Prop} {PX : Px} (hM : inM V) (hw : w2_group  V Q) : MT l S0 E 1 h0 yX2_group cX2_group 3 (some .int) 1 true (sbs []) [] (toC V) ZM (QL (fun x V1 Z1 => Z1 = ZM ∧ Q x V1)) (PL PX) := by
  refine mt_of Gk1 (by decide) rfl (Nat.le_of_ble_eq_true rfl) ?_
  intro p e s m below meth c A P ls X hS hl
  have hl : lv_has ls 3 [(0, .ref h0)] := hl
  have hx := X.2.1
  have hb := X.2.2.1
  unfold w2_group at hw
  refine lv_aload_n hx hb dX2_group_0 rfl (lv_at hl 0 rfl) ?_
  refine z_gi X hS f2_50 dX2_group_1 ?_
  refine lv_istore_n (lv' := [(1, .int (I3 (V 50 0))), (0, .ref h0)]) hx hb dX2_group_4 rfl hl (by decide) rfl (fun ls hl => ?_)
  refine lv_aload_n hx hb dX2_group_5 rfl (lv_at hl 1 rfl) ?_
  refine lv_dup hx hb dX2_group_6 rfl ?_
  refine z_gi X hS f2_50 dX2_group_7 ?_
  refine z_iconst hx hb dX2_group_10 ?_
  refine z_add hx hb hw dX2_group_11 (fun h13 hw => ?_)
  refine z_pi X hS hM f2_50 p2_50 h13 hw dX2_group_12 (fun V14 hM15 hw H locs hS => ?_)
  refine lv_aload_n hx hb dX2_group_15 rfl (lv_at hl 1 rfl) ?_
  refine r_ga X hS f2_43 dX2_group_16 ?_
  refine lv_iload_n hx hb dX2_group_19 rfl (lv_at hl 0 rfl) ?_
  refine lv_aload_n hx hb dX2_group_20 rfl (lv_at hl 1 rfl) ?_
  refine z_gi X hS f2_42 dX2_group_21 ?_
  refine z_is X hS hM15 a2_43 (hM15 42 0) hw dX2_group_24 (fun V16 hM17 hw H locs hS => ?_)
  refine lv_aload_n hx hb dX2_group_25 rfl (lv_at hl 1 rfl) ?_
  refine r_ga X hS f2_44 dX2_group_26 ?_
  refine lv_iload_n hx hb dX2_group_29 rfl (lv_at hl 0 rfl) ?_
  refine lv_aload_n hx hb dX2_group_30 rfl (lv_at hl 1 rfl) ?_
  refine z_gi X hS f2_38 dX2_group_31 ?_
  refine z_is X hS hM17 a2_44 (hM17 38 0) hw dX2_group_34 (fun V18 hM19 hw H locs hS => ?_)
  refine z_iconst hx hb dX2_group_35 ?_
  refine lv_istore_n (lv' := [(2, .int (I3 0)), (1, .int (I3 (V 50 0))), (0, .ref h0)]) hx hb dX2_group_36 rfl hl (by decide) rfl (fun ls hl => ?_)
  obtain ⟨n, hw⟩ := hw
  exact m2_group_L37 X n hM19 hS (lv_sub hl [2, 1, 0] rfl) (hM 50 0) (⟨by decide, by decide⟩) hw
theorem m2_promise {V : Mv} {Q : Int → Mv → Prop} {PX : Px} (hM : inM V) (hw : w2_promise  V Q) : MT l S0 E 1 h0 yX2_promise cX2_promise 3 (some .int) 3 true (sbs []) [] (toC V) ZM (QL (fun x V1 Z1 => Z1 = ZM ∧ Q x V1)) (PL PX) := by
  refine mt_of Gk1 (by decide) rfl (Nat.le_of_ble_eq_true rfl) ?_
  intro p e s m below meth c A P ls X hS hl
  have hl : lv_has ls 3 [(0, .ref h0)] := hl
  have hx := X.2.1
  have hb := X.2.2.1
  unfold w2_promise at hw
  refine lv_aload_n hx hb dX2_promise_0 rfl (lv_at hl 0 rfl) ?_
  refine z_iconst hx hb dX2_promise_1 ?_
  refine z_pi X hS hM f2_0 p2_0 (⟨by decide, by decide⟩) hw dX2_promise_2 (fun V1 hM2 hw H locs hS => ?_)
  refine lv_aload_n hx hb dX2_promise_5 rfl (lv_at hl 0 rfl) ?_
  refine z_bipush hx hb dX2_promise_6 (by decide +kernel) ?_
  refine z_callI X hS (m2_isFull (⟨by decide, by decide⟩) hM2 hw) gv2_254 hy2_isFull rfl (by omega) (by decide) (sbs_sub rfl) hl.1 (Nat.le_of_ble_eq_true rfl) dX2_promise_8 rfl (fun x3 V5 Z8 h4 hM6 hw P7 H locs c1 s1 hP hS => ?_)
  obtain ⟨rfl, hw⟩ := hw
  refine z_zeq (tgt := 20) hx hb h4 hw dX2_promise_11 (by decide) (fun hc hw => ?_) (fun hc hw => ?_)
  · refine lv_aload_n hx hb dX2_promise_20 rfl (lv_at hl 0 rfl) ?_
    refine z_callI X hS (m2_capability  hM6 hw) gv2_171 hy2_capability rfl (by omega) (by decide) (sbs_sub rfl) hl.1 (Nat.le_of_ble_eq_true rfl) dX2_promise_21 rfl (fun x9 V11 Z14 h10 hM12 hw P13 H locs c1 s1 hP hS => ?_)
    obtain ⟨rfl, hw⟩ := hw
    refine lv_istore_n (lv' := [(1, .int (I3 x9)), (0, .ref h0)]) hx hb dX2_promise_24 rfl hl (by decide) rfl (fun ls hl => ?_)
    refine lv_aload_n hx hb dX2_promise_25 rfl (lv_at hl 1 rfl) ?_
    refine r_ga X hS f2_13 dX2_promise_26 ?_
    refine lv_iload_n hx hb dX2_promise_29 rfl (lv_at hl 0 rfl) ?_
    refine z_il X hS a2_13 hw dX2_promise_30 (fun hw => ?_)
    refine lv_istore_n (lv' := [(2, .int (I3 (V11 13 x9))), (1, .int (I3 x9)), (0, .ref h0)]) hx hb dX2_promise_31 rfl hl (by decide) rfl (fun ls hl => ?_)
    refine lv_aload_n hx hb dX2_promise_32 rfl (lv_at hl 2 rfl) ?_
    refine r_ga X hS f2_6 dX2_promise_33 ?_
    refine lv_iload_n hx hb dX2_promise_36 rfl (lv_at hl 0 rfl) ?_
    refine lv_iload_n hx hb dX2_promise_37 rfl (lv_at hl 1 rfl) ?_
    refine z_is X hS hM12 a2_6 h10 hw dX2_promise_38 (fun V15 hM16 hw H locs hS => ?_)
    refine lv_iload_n hx hb dX2_promise_39 rfl (lv_at hl 0 rfl) ?_
    refine z_vo2 X hS hw gs2_155 (by omega) hl.1 (Nat.le_of_ble_eq_true rfl) dX2_promise_40 (fun h17 hw => ?_)
    exact z_ri X hS hM16 h17 ⟨rfl, hw⟩ dX2_promise_43
  · refine lv_aload_n hx hb dX2_promise_14 rfl (lv_at hl 0 rfl) ?_
    refine z_iconst hx hb dX2_promise_15 ?_
    refine z_callI X hS (m2_fails (⟨by decide, by decide⟩) hM6 hw) gv2_257 hy2_fails rfl (by omega) (by decide) (sbs_sub rfl) hl.1 (Nat.le_of_ble_eq_true rfl) dX2_promise_16 rfl (fun x18 V20 Z23 h19 hM21 hw P22 H locs c1 s1 hP hS => ?_)
    obtain ⟨rfl, hw⟩ := hw
    exact z_ri X hS hM21 h19 ⟨rfl, hw⟩ dX2_promise_19
end WALK
