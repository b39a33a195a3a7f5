set_option maxRecDepth 100000
theorem dX2_isKept_0 : decode cX2_isKept 0 = .ok (.aload_n 0, 1) := by decide +kernel
theorem dX2_isKept_1 : decode cX2_isKept 1 = .ok (.iload_n 1, 1) := by decide +kernel
theorem dX2_isKept_2 : decode cX2_isKept 2 = .ok (.iconst 0, 1) := by decide +kernel
theorem dX2_isKept_3 : decode cX2_isKept 3 = .ok (.invokevirtual 179, 3) := by decide +kernel
theorem dX2_isKept_6 : decode cX2_isKept 6 = .ok (.ifCond .eq 19, 3) := by decide +kernel
theorem dX2_isKept_9 : decode cX2_isKept 9 = .ok (.aload_n 0, 1) := by decide +kernel
theorem dX2_isKept_10 : decode cX2_isKept 10 = .ok (.getfield 22, 3) := by decide +kernel
theorem dX2_isKept_13 : decode cX2_isKept 13 = .ok (.bipush (-2), 2) := by decide +kernel
theorem dX2_isKept_15 : decode cX2_isKept 15 = .ok (.iload_n 1, 1) := by decide +kernel
theorem dX2_isKept_16 : decode cX2_isKept 16 = .ok (.isub, 1) := by decide +kernel
theorem dX2_isKept_17 : decode cX2_isKept 17 = .ok (.iaload, 1) := by decide +kernel
theorem dX2_isKept_18 : decode cX2_isKept 18 = .ok (.ifCond .lt 7, 3) := by decide +kernel
theorem dX2_isKept_21 : decode cX2_isKept 21 = .ok (.iconst 1, 1) := by decide +kernel
theorem dX2_isKept_22 : decode cX2_isKept 22 = .ok (.goto 4, 3) := by decide +kernel
theorem dX2_isKept_25 : decode cX2_isKept 25 = .ok (.iconst 0, 1) := by decide +kernel
theorem dX2_isKept_26 : decode cX2_isKept 26 = .ok (.ireturn, 1) := by decide +kernel
theorem dX2_handler_0 : decode cX2_handler 0 = .ok (.aload_n 0, 1) := by decide +kernel
theorem dX2_handler_1 : decode cX2_handler 1 = .ok (.iconst 0, 1) := by decide +kernel
theorem dX2_handler_2 : decode cX2_handler 2 = .ok (.putfield 131, 3) := by decide +kernel
theorem dX2_handler_5 : decode cX2_handler 5 = .ok (.iload_n 1, 1) := by decide +kernel
theorem dX2_handler_6 : decode cX2_handler 6 = .ok (.ifCond .lt 29, 3) := by decide +kernel
theorem dX2_handler_9 : decode cX2_handler 9 = .ok (.iload_n 1, 1) := by decide +kernel
theorem dX2_handler_10 : decode cX2_handler 10 = .ok (.iconst 5, 1) := by decide +kernel
theorem dX2_handler_11 : decode cX2_handler 11 = .ok (.if_icmp .gt 24, 3) := by decide +kernel
theorem dX2_handler_14 : decode cX2_handler 14 = .ok (.aload_n 0, 1) := by decide +kernel
theorem dX2_handler_15 : decode cX2_handler 15 = .ok (.iload_n 2, 1) := by decide +kernel
theorem dX2_handler_16 : decode cX2_handler 16 = .ok (.invokevirtual 260, 3) := by decide +kernel
theorem dX2_handler_19 : decode cX2_handler 19 = .ok (.ifCond .eq 16, 3) := by decide +kernel
theorem dX2_handler_22 : decode cX2_handler 22 = .ok (.iload_n 1, 1) := by decide +kernel
theorem dX2_handler_23 : decode cX2_handler 23 = .ok (.iconst 3, 1) := by decide +kernel
theorem dX2_handler_24 : decode cX2_handler 24 = .ok (.if_icmp .le 17, 3) := by decide +kernel
theorem dX2_handler_27 : decode cX2_handler 27 = .ok (.aload_n 0, 1) := by decide +kernel
theorem dX2_handler_28 : decode cX2_handler 28 = .ok (.iload_n 2, 1) := by decide +kernel
theorem dX2_handler_29 : decode cX2_handler 29 = .ok (.invokevirtual 263, 3) := by decide +kernel
theorem dX2_handler_32 : decode cX2_handler 32 = .ok (.ifCond .ne 9, 3) := by decide +kernel
theorem dX2_handler_35 : decode cX2_handler 35 = .ok (.aload_n 0, 1) := by decide +kernel
theorem dX2_handler_36 : decode cX2_handler 36 = .ok (.iconst 1, 1) := by decide +kernel
theorem dX2_handler_37 : decode cX2_handler 37 = .ok (.invokevirtual 257, 3) := by decide +kernel
theorem dX2_handler_40 : decode cX2_handler 40 = .ok (.ireturn, 1) := by decide +kernel
theorem dX2_handler_41 : decode cX2_handler 41 = .ok (.aload_n 0, 1) := by decide +kernel
theorem dX2_handler_42 : decode cX2_handler 42 = .ok (.getfield 142, 3) := by decide +kernel
theorem dX2_handler_45 : decode cX2_handler 45 = .ok (.sipush 1000, 3) := by decide +kernel
theorem dX2_handler_48 : decode cX2_handler 48 = .ok (.if_icmp .ne 9, 3) := by decide +kernel
theorem dX2_handler_51 : decode cX2_handler 51 = .ok (.aload_n 0, 1) := by decide +kernel
theorem dX2_handler_52 : decode cX2_handler 52 = .ok (.iconst 2, 1) := by decide +kernel
theorem dX2_handler_53 : decode cX2_handler 53 = .ok (.invokevirtual 257, 3) := by decide +kernel
theorem dX2_handler_56 : decode cX2_handler 56 = .ok (.ireturn, 1) := by decide +kernel
theorem dX2_handler_57 : decode cX2_handler 57 = .ok (.aload_n 0, 1) := by decide +kernel
theorem dX2_handler_58 : decode cX2_handler 58 = .ok (.getfield 86, 3) := by decide +kernel
theorem dX2_handler_61 : decode cX2_handler 61 = .ok (.aload_n 0, 1) := by decide +kernel
theorem dX2_handler_62 : decode cX2_handler 62 = .ok (.getfield 142, 3) := by decide +kernel
theorem dX2_handler_65 : decode cX2_handler 65 = .ok (.iload_n 1, 1) := by decide +kernel
theorem dX2_handler_66 : decode cX2_handler 66 = .ok (.iastore, 1) := by decide +kernel
theorem dX2_handler_67 : decode cX2_handler 67 = .ok (.aload_n 0, 1) := by decide +kernel
theorem dX2_handler_68 : decode cX2_handler 68 = .ok (.getfield 89, 3) := by decide +kernel
theorem dX2_handler_71 : decode cX2_handler 71 = .ok (.aload_n 0, 1) := by decide +kernel
theorem dX2_handler_72 : decode cX2_handler 72 = .ok (.getfield 142, 3) := by decide +kernel
theorem dX2_handler_75 : decode cX2_handler 75 = .ok (.iload_n 2, 1) := by decide +kernel
theorem dX2_handler_76 : decode cX2_handler 76 = .ok (.iastore, 1) := by decide +kernel
theorem dX2_handler_77 : decode cX2_handler 77 = .ok (.aload_n 0, 1) := by decide +kernel
theorem dX2_handler_78 : decode cX2_handler 78 = .ok (.dup, 1) := by decide +kernel
theorem dX2_handler_79 : decode cX2_handler 79 = .ok (.getfield 142, 3) := by decide +kernel
theorem dX2_handler_82 : decode cX2_handler 82 = .ok (.iconst 1, 1) := by decide +kernel
theorem dX2_handler_83 : decode cX2_handler 83 = .ok (.iadd, 1) := by decide +kernel
theorem dX2_handler_84 : decode cX2_handler 84 = .ok (.putfield 142, 3) := by decide +kernel
theorem dX2_handler_87 : decode cX2_handler 87 = .ok (.aload_n 0, 1) := by decide +kernel
theorem dX2_handler_88 : decode cX2_handler 88 = .ok (.getfield 142, 3) := by decide +kernel
theorem dX2_handler_91 : decode cX2_handler 91 = .ok (.iconst 1, 1) := by decide +kernel
theorem dX2_handler_92 : decode cX2_handler 92 = .ok (.isub, 1) := by decide +kernel
theorem dX2_handler_93 : decode cX2_handler 93 = .ok (.ireturn, 1) := by decide +kernel
theorem dX2_thenable_0 : decode cX2_thenable 0 = .ok (.aload_n 0, 1) := by decide +kernel
theorem dX2_thenable_1 : decode cX2_thenable 1 = .ok (.iconst 0, 1) := by decide +kernel
theorem dX2_thenable_2 : decode cX2_thenable 2 = .ok (.putfield 131, 3) := by decide +kernel
theorem dX2_thenable_5 : decode cX2_thenable 5 = .ok (.iload_n 1, 1) := by decide +kernel
theorem dX2_thenable_6 : decode cX2_thenable 6 = .ok (.ifCond .lt 45, 3) := by decide +kernel
theorem dX2_thenable_9 : decode cX2_thenable 9 = .ok (.iload_n 1, 1) := by decide +kernel
theorem dX2_thenable_10 : decode cX2_thenable 10 = .ok (.iconst 2, 1) := by decide +kernel
theorem dX2_thenable_11 : decode cX2_thenable 11 = .ok (.if_icmp .gt 40, 3) := by decide +kernel
theorem dX2_thenable_14 : decode cX2_thenable 14 = .ok (.iload_n 2, 1) := by decide +kernel
theorem dX2_thenable_15 : decode cX2_thenable 15 = .ok (.ifCond .lt 36, 3) := by decide +kernel
theorem dX2_thenable_18 : decode cX2_thenable 18 = .ok (.iload_n 2, 1) := by decide +kernel
theorem dX2_thenable_19 : decode cX2_thenable 19 = .ok (.iconst 4, 1) := by decide +kernel
theorem dX2_thenable_20 : decode cX2_thenable 20 = .ok (.if_icmp .gt 31, 3) := by decide +kernel
theorem dX2_thenable_23 : decode cX2_thenable 23 = .ok (.iload 4, 2) := by decide +kernel
theorem dX2_thenable_25 : decode cX2_thenable 25 = .ok (.ifCond .lt 26, 3) := by decide +kernel
theorem dX2_thenable_28 : decode cX2_thenable 28 = .ok (.iload 4, 2) := by decide +kernel
theorem dX2_thenable_30 : decode cX2_thenable 30 = .ok (.iconst 4, 1) := by decide +kernel
theorem dX2_thenable_31 : decode cX2_thenable 31 = .ok (.if_icmp .gt 20, 3) := by decide +kernel
theorem dX2_thenable_34 : decode cX2_thenable 34 = .ok (.aload_n 0, 1) := by decide +kernel
theorem dX2_thenable_35 : decode cX2_thenable 35 = .ok (.iload_n 3, 1) := by decide +kernel
theorem dX2_thenable_36 : decode cX2_thenable 36 = .ok (.invokevirtual 260, 3) := by decide +kernel
theorem dX2_thenable_39 : decode cX2_thenable 39 = .ok (.ifCond .eq 12, 3) := by decide +kernel
theorem dX2_thenable_42 : decode cX2_thenable 42 = .ok (.aload_n 0, 1) := by decide +kernel
theorem dX2_thenable_43 : decode cX2_thenable 43 = .ok (.iload 5, 2) := by decide +kernel
theorem dX2_thenable_45 : decode cX2_thenable 45 = .ok (.invokevirtual 260, 3) := by decide +kernel
theorem dX2_thenable_48 : decode cX2_thenable 48 = .ok (.ifCond .ne 9, 3) := by decide +kernel
theorem dX2_thenable_51 : decode cX2_thenable 51 = .ok (.aload_n 0, 1) := by decide +kernel
theorem dX2_thenable_52 : decode cX2_thenable 52 = .ok (.iconst 1, 1) := by decide +kernel
theorem dX2_thenable_53 : decode cX2_thenable 53 = .ok (.invokevirtual 257, 3) := by decide +kernel
theorem dX2_thenable_56 : decode cX2_thenable 56 = .ok (.ireturn, 1) := by decide +kernel
theorem dX2_thenable_57 : decode cX2_thenable 57 = .ok (.aload_n 0, 1) := by decide +kernel
theorem dX2_thenable_58 : decode cX2_thenable 58 = .ok (.bipush 8, 2) := by decide +kernel
theorem dX2_thenable_60 : decode cX2_thenable 60 = .ok (.invokevirtual 254, 3) := by decide +kernel
theorem dX2_thenable_63 : decode cX2_thenable 63 = .ok (.ifCond .eq 9, 3) := by decide +kernel
theorem dX2_thenable_66 : decode cX2_thenable 66 = .ok (.aload_n 0, 1) := by decide +kernel
theorem dX2_thenable_67 : decode cX2_thenable 67 = .ok (.iconst 2, 1) := by decide +kernel
theorem dX2_thenable_68 : decode cX2_thenable 68 = .ok (.invokevirtual 257, 3) := by decide +kernel
theorem dX2_thenable_71 : decode cX2_thenable 71 = .ok (.ireturn, 1) := by decide +kernel
theorem dX2_thenable_72 : decode cX2_thenable 72 = .ok (.aload_n 0, 1) := by decide +kernel
theorem dX2_thenable_73 : decode cX2_thenable 73 = .ok (.iconst 1, 1) := by decide +kernel
theorem dX2_thenable_74 : decode cX2_thenable 74 = .ok (.invokevirtual 148, 3) := by decide +kernel
theorem dX2_thenable_77 : decode cX2_thenable 77 = .ok (.istore 6, 2) := by decide +kernel
theorem dX2_thenable_79 : decode cX2_thenable 79 = .ok (.aload_n 0, 1) := by decide +kernel
theorem dX2_thenable_80 : decode cX2_thenable 80 = .ok (.getfield 29, 3) := by decide +kernel
theorem dX2_thenable_83 : decode cX2_thenable 83 = .ok (.iload 6, 2) := by decide +kernel
theorem dX2_thenable_85 : decode cX2_thenable 85 = .ok (.iload_n 1, 1) := by decide +kernel
theorem dX2_thenable_86 : decode cX2_thenable 86 = .ok (.iastore, 1) := by decide +kernel
theorem dX2_thenable_87 : decode cX2_thenable 87 = .ok (.aload_n 0, 1) := by decide +kernel
theorem dX2_thenable_88 : decode cX2_thenable 88 = .ok (.getfield 32, 3) := by decide +kernel
theorem dX2_thenable_91 : decode cX2_thenable 91 = .ok (.iload 6, 2) := by decide +kernel
theorem dX2_thenable_93 : decode cX2_thenable 93 = .ok (.iload_n 2, 1) := by decide +kernel
theorem dX2_thenable_94 : decode cX2_thenable 94 = .ok (.iastore, 1) := by decide +kernel
theorem dX2_thenable_95 : decode cX2_thenable 95 = .ok (.aload_n 0, 1) := by decide +kernel
theorem dX2_thenable_96 : decode cX2_thenable 96 = .ok (.getfield 35, 3) := by decide +kernel
theorem dX2_thenable_99 : decode cX2_thenable 99 = .ok (.iload 6, 2) := by decide +kernel
theorem dX2_thenable_101 : decode cX2_thenable 101 = .ok (.iload_n 3, 1) := by decide +kernel
theorem dX2_thenable_102 : decode cX2_thenable 102 = .ok (.iastore, 1) := by decide +kernel
theorem dX2_thenable_103 : decode cX2_thenable 103 = .ok (.aload_n 0, 1) := by decide +kernel
theorem dX2_thenable_104 : decode cX2_thenable 104 = .ok (.getfield 38, 3) := by decide +kernel
theorem dX2_thenable_107 : decode cX2_thenable 107 = .ok (.iload 6, 2) := by decide +kernel
theorem dX2_thenable_109 : decode cX2_thenable 109 = .ok (.iload 4, 2) := by decide +kernel
theorem dX2_thenable_111 : decode cX2_thenable 111 = .ok (.iastore, 1) := by decide +kernel
theorem dX2_thenable_112 : decode cX2_thenable 112 = .ok (.aload_n 0, 1) := by decide +kernel
theorem dX2_thenable_113 : decode cX2_thenable 113 = .ok (.getfield 41, 3) := by decide +kernel
theorem dX2_thenable_116 : decode cX2_thenable 116 = .ok (.iload 6, 2) := by decide +kernel
theorem dX2_thenable_118 : decode cX2_thenable 118 = .ok (.iload 5, 2) := by decide +kernel
theorem dX2_thenable_120 : decode cX2_thenable 120 = .ok (.iastore, 1) := by decide +kernel
theorem dX2_thenable_121 : decode cX2_thenable 121 = .ok (.iload 6, 2) := by decide +kernel
theorem dX2_thenable_123 : decode cX2_thenable 123 = .ok (.invokestatic 155, 3) := by decide +kernel
theorem dX2_thenable_126 : decode cX2_thenable 126 = .ok (.ireturn, 1) := by decide +kernel
theorem dX2_settle_0 : decode cX2_settle 0 = .ok (.aload_n 0, 1) := by decide +kernel
theorem dX2_settle_1 : decode cX2_settle 1 = .ok (.aload_n 0, 1) := by decide +kernel
theorem dX2_settle_2 : decode cX2_settle 2 = .ok (.iload_n 1, 1) := by decide +kernel
theorem dX2_settle_3 : decode cX2_settle 3 = .ok (.invokevirtual 263, 3) := by decide +kernel
theorem dX2_settle_6 : decode cX2_settle 6 = .ok (.ifCond .eq 11, 3) := by decide +kernel
theorem dX2_settle_9 : decode cX2_settle 9 = .ok (.aload_n 0, 1) := by decide +kernel
theorem dX2_settle_10 : decode cX2_settle 10 = .ok (.iload_n 3, 1) := by decide +kernel
theorem dX2_settle_11 : decode cX2_settle 11 = .ok (.invokevirtual 260, 3) := by decide +kernel
theorem dX2_settle_14 : decode cX2_settle 14 = .ok (.ifCond .ne 7, 3) := by decide +kernel
theorem dX2_settle_17 : decode cX2_settle 17 = .ok (.iconst 1, 1) := by decide +kernel
theorem dX2_settle_18 : decode cX2_settle 18 = .ok (.goto 17, 3) := by decide +kernel
theorem dX2_settle_21 : decode cX2_settle 21 = .ok (.aload_n 0, 1) := by decide +kernel
theorem dX2_settle_22 : decode cX2_settle 22 = .ok (.bipush 8, 2) := by decide +kernel
theorem dX2_settle_24 : decode cX2_settle 24 = .ok (.invokevirtual 254, 3) := by decide +kernel
theorem dX2_settle_27 : decode cX2_settle 27 = .ok (.ifCond .eq 7, 3) := by decide +kernel
theorem dX2_settle_30 : decode cX2_settle 30 = .ok (.iconst 2, 1) := by decide +kernel
theorem dX2_settle_31 : decode cX2_settle 31 = .ok (.goto 4, 3) := by decide +kernel
theorem dX2_settle_34 : decode cX2_settle 34 = .ok (.iconst 0, 1) := by decide +kernel
theorem dX2_settle_35 : decode cX2_settle 35 = .ok (.putfield 131, 3) := by decide +kernel
theorem dX2_settle_38 : decode cX2_settle 38 = .ok (.aload_n 0, 1) := by decide +kernel
theorem dX2_settle_39 : decode cX2_settle 39 = .ok (.getfield 131, 3) := by decide +kernel
theorem dX2_settle_42 : decode cX2_settle 42 = .ok (.ifCond .le 5, 3) := by decide +kernel
theorem dX2_settle_45 : decode cX2_settle 45 = .ok (.iconst 0, 1) := by decide +kernel
theorem dX2_settle_46 : decode cX2_settle 46 = .ok (.ireturn, 1) := by decide +kernel
theorem dX2_settle_47 : decode cX2_settle 47 = .ok (.aload_n 0, 1) := by decide +kernel
theorem dX2_settle_48 : decode cX2_settle 48 = .ok (.getfield 22, 3) := by decide +kernel
theorem dX2_settle_51 : decode cX2_settle 51 = .ok (.bipush (-2), 2) := by decide +kernel
theorem dX2_settle_53 : decode cX2_settle 53 = .ok (.iload_n 1, 1) := by decide +kernel
theorem dX2_settle_54 : decode cX2_settle 54 = .ok (.isub, 1) := by decide +kernel
theorem dX2_settle_55 : decode cX2_settle 55 = .ok (.iaload, 1) := by decide +kernel
theorem dX2_settle_56 : decode cX2_settle 56 = .ok (.istore 4, 2) := by decide +kernel
theorem dX2_settle_58 : decode cX2_settle 58 = .ok (.aload_n 0, 1) := by decide +kernel
theorem dX2_settle_59 : decode cX2_settle 59 = .ok (.getfield 47, 3) := by decide +kernel
theorem dX2_settle_62 : decode cX2_settle 62 = .ok (.iload 4, 2) := by decide +kernel
theorem dX2_settle_64 : decode cX2_settle 64 = .ok (.baload, 1) := by decide +kernel
theorem dX2_settle_65 : decode cX2_settle 65 = .ok (.ifCond .ne 7, 3) := by decide +kernel
theorem dX2_settle_68 : decode cX2_settle 68 = .ok (.iconst 1, 1) := by decide +kernel
theorem dX2_settle_69 : decode cX2_settle 69 = .ok (.goto 4, 3) := by decide +kernel
theorem dX2_settle_72 : decode cX2_settle 72 = .ok (.iconst 0, 1) := by decide +kernel
theorem dX2_settle_73 : decode cX2_settle 73 = .ok (.istore 5, 2) := by decide +kernel
theorem dX2_settle_75 : decode cX2_settle 75 = .ok (.iload_n 2, 1) := by decide +kernel
theorem dX2_settle_76 : decode cX2_settle 76 = .ok (.ifCond .eq 13, 3) := by decide +kernel
theorem dX2_settle_79 : decode cX2_settle 79 = .ok (.aload_n 0, 1) := by decide +kernel
theorem dX2_settle_80 : decode cX2_settle 80 = .ok (.iload 4, 2) := by decide +kernel
theorem dX2_settle_82 : decode cX2_settle 82 = .ok (.iload_n 3, 1) := by decide +kernel
theorem dX2_settle_83 : decode cX2_settle 83 = .ok (.invokevirtual 197, 3) := by decide +kernel
theorem dX2_settle_86 : decode cX2_settle 86 = .ok (.goto 10, 3) := by decide +kernel
theorem dX2_settle_89 : decode cX2_settle 89 = .ok (.aload_n 0, 1) := by decide +kernel
theorem dX2_settle_90 : decode cX2_settle 90 = .ok (.iload 4, 2) := by decide +kernel
theorem dX2_settle_92 : decode cX2_settle 92 = .ok (.iload_n 3, 1) := by decide +kernel
theorem dX2_settle_93 : decode cX2_settle 93 = .ok (.invokevirtual 183, 3) := by decide +kernel
theorem dX2_settle_96 : decode cX2_settle 96 = .ok (.iload 5, 2) := by decide +kernel
theorem dX2_settle_98 : decode cX2_settle 98 = .ok (.ireturn, 1) := by decide +kernel
theorem dX2_later_0 : decode cX2_later 0 = .ok (.aload_n 0, 1) := by decide +kernel
theorem dX2_later_1 : decode cX2_later 1 = .ok (.iconst 0, 1) := by decide +kernel
theorem dX2_later_2 : decode cX2_later 2 = .ok (.putfield 131, 3) := by decide +kernel
theorem dX2_later_5 : decode cX2_later 5 = .ok (.aload_n 0, 1) := by decide +kernel
theorem dX2_later_6 : decode cX2_later 6 = .ok (.iload_n 1, 1) := by decide +kernel
theorem dX2_later_7 : decode cX2_later 7 = .ok (.iconst 1, 1) := by decide +kernel
theorem dX2_later_8 : decode cX2_later 8 = .ok (.invokevirtual 179, 3) := by decide +kernel
theorem dX2_later_11 : decode cX2_later 11 = .ok (.ifCond .eq 11, 3) := by decide +kernel
theorem dX2_later_14 : decode cX2_later 14 = .ok (.aload_n 0, 1) := by decide +kernel
theorem dX2_later_15 : decode cX2_later 15 = .ok (.iload_n 3, 1) := by decide +kernel
theorem dX2_later_16 : decode cX2_later 16 = .ok (.invokevirtual 260, 3) := by decide +kernel
theorem dX2_later_19 : decode cX2_later 19 = .ok (.ifCond .ne 9, 3) := by decide +kernel
theorem dX2_later_22 : decode cX2_later 22 = .ok (.aload_n 0, 1) := by decide +kernel
theorem dX2_later_23 : decode cX2_later 23 = .ok (.iconst 1, 1) := by decide +kernel
theorem dX2_later_24 : decode cX2_later 24 = .ok (.invokevirtual 257, 3) := by decide +kernel
theorem dX2_later_27 : decode cX2_later 27 = .ok (.ireturn, 1) := by decide +kernel
theorem dX2_later_28 : decode cX2_later 28 = .ok (.aload_n 0, 1) := by decide +kernel
theorem dX2_later_29 : decode cX2_later 29 = .ok (.bipush 8, 2) := by decide +kernel
theorem dX2_later_31 : decode cX2_later 31 = .ok (.invokevirtual 254, 3) := by decide +kernel
theorem dX2_later_34 : decode cX2_later 34 = .ok (.ifCond .eq 9, 3) := by decide +kernel
theorem dX2_later_37 : decode cX2_later 37 = .ok (.aload_n 0, 1) := by decide +kernel
theorem dX2_later_38 : decode cX2_later 38 = .ok (.iconst 2, 1) := by decide +kernel
theorem dX2_later_39 : decode cX2_later 39 = .ok (.invokevirtual 257, 3) := by decide +kernel
theorem dX2_later_42 : decode cX2_later 42 = .ok (.ireturn, 1) := by decide +kernel
theorem dX2_later_43 : decode cX2_later 43 = .ok (.aload_n 0, 1) := by decide +kernel
theorem dX2_later_44 : decode cX2_later 44 = .ok (.getfield 22, 3) := by decide +kernel
theorem dX2_later_47 : decode cX2_later 47 = .ok (.bipush (-2), 2) := by decide +kernel
theorem dX2_later_49 : decode cX2_later 49 = .ok (.iload_n 1, 1) := by decide +kernel
theorem dX2_later_50 : decode cX2_later 50 = .ok (.isub, 1) := by decide +kernel
theorem dX2_later_51 : decode cX2_later 51 = .ok (.iaload, 1) := by decide +kernel
theorem dX2_later_52 : decode cX2_later 52 = .ok (.istore 4, 2) := by decide +kernel
theorem dX2_later_54 : decode cX2_later 54 = .ok (.iload 4, 2) := by decide +kernel
theorem dX2_later_56 : decode cX2_later 56 = .ok (.ifCond .ge 5, 3) := by decide +kernel
theorem dX2_later_59 : decode cX2_later 59 = .ok (.iconst (-1), 1) := by decide +kernel
theorem dX2_later_60 : decode cX2_later 60 = .ok (.ireturn, 1) := by decide +kernel
theorem dX2_later_61 : decode cX2_later 61 = .ok (.aload_n 0, 1) := by decide +kernel
theorem dX2_later_62 : decode cX2_later 62 = .ok (.getfield 47, 3) := by decide +kernel
theorem dX2_later_65 : decode cX2_later 65 = .ok (.iload 4, 2) := by decide +kernel
theorem dX2_later_67 : decode cX2_later 67 = .ok (.baload, 1) := by decide +kernel
theorem dX2_later_68 : decode cX2_later 68 = .ok (.ifCond .ne 7, 3) := by decide +kernel
theorem dX2_later_71 : decode cX2_later 71 = .ok (.iconst 1, 1) := by decide +kernel
theorem dX2_later_72 : decode cX2_later 72 = .ok (.goto 4, 3) := by decide +kernel
theorem dX2_later_75 : decode cX2_later 75 = .ok (.iconst 0, 1) := by decide +kernel
theorem dX2_later_76 : decode cX2_later 76 = .ok (.istore 5, 2) := by decide +kernel
theorem dX2_later_78 : decode cX2_later 78 = .ok (.iload_n 2, 1) := by decide +kernel
theorem dX2_later_79 : decode cX2_later 79 = .ok (.ifCond .eq 13, 3) := by decide +kernel
theorem dX2_later_82 : decode cX2_later 82 = .ok (.aload_n 0, 1) := by decide +kernel
theorem dX2_later_83 : decode cX2_later 83 = .ok (.iload 4, 2) := by decide +kernel
theorem dX2_later_85 : decode cX2_later 85 = .ok (.iload_n 3, 1) := by decide +kernel
theorem dX2_later_86 : decode cX2_later 86 = .ok (.invokevirtual 197, 3) := by decide +kernel
theorem dX2_later_89 : decode cX2_later 89 = .ok (.goto 10, 3) := by decide +kernel
theorem dX2_later_92 : decode cX2_later 92 = .ok (.aload_n 0, 1) := by decide +kernel
theorem dX2_later_93 : decode cX2_later 93 = .ok (.iload 4, 2) := by decide +kernel
theorem dX2_later_95 : decode cX2_later 95 = .ok (.iload_n 3, 1) := by decide +kernel
theorem dX2_later_96 : decode cX2_later 96 = .ok (.invokevirtual 183, 3) := by decide +kernel
theorem dX2_later_99 : decode cX2_later 99 = .ok (.iload 5, 2) := by decide +kernel
theorem dX2_later_101 : decode cX2_later 101 = .ok (.ifCond .eq 7, 3) := by decide +kernel
theorem dX2_later_104 : decode cX2_later 104 = .ok (.iconst 1, 1) := by decide +kernel
theorem dX2_later_105 : decode cX2_later 105 = .ok (.goto 4, 3) := by decide +kernel
theorem dX2_later_108 : decode cX2_later 108 = .ok (.iconst 0, 1) := by decide +kernel
theorem dX2_later_109 : decode cX2_later 109 = .ok (.ireturn, 1) := by decide +kernel
theorem dX2_then_0 : decode cX2_then 0 = .ok (.aload_n 0, 1) := by decide +kernel
theorem dX2_then_1 : decode cX2_then 1 = .ok (.iconst 0, 1) := by decide +kernel
theorem dX2_then_2 : decode cX2_then 2 = .ok (.putfield 131, 3) := by decide +kernel
theorem dX2_then_5 : decode cX2_then 5 = .ok (.aload_n 0, 1) := by decide +kernel
theorem dX2_then_6 : decode cX2_then 6 = .ok (.iload_n 1, 1) := by decide +kernel
theorem dX2_then_7 : decode cX2_then 7 = .ok (.iconst 0, 1) := by decide +kernel
theorem dX2_then_8 : decode cX2_then 8 = .ok (.invokevirtual 179, 3) := by decide +kernel
theorem dX2_then_11 : decode cX2_then 11 = .ok (.ifCond .eq 34, 3) := by decide +kernel
theorem dX2_then_14 : decode cX2_then 14 = .ok (.iload_n 2, 1) := by decide +kernel
theorem dX2_then_15 : decode cX2_then 15 = .ok (.iconst (-1), 1) := by decide +kernel
theorem dX2_then_16 : decode cX2_then 16 = .ok (.if_icmp .eq 11, 3) := by decide +kernel
theorem dX2_then_19 : decode cX2_then 19 = .ok (.aload_n 0, 1) := by decide +kernel
theorem dX2_then_20 : decode cX2_then 20 = .ok (.iload_n 2, 1) := by decide +kernel
theorem dX2_then_21 : decode cX2_then 21 = .ok (.invokevirtual 266, 3) := by decide +kernel
theorem dX2_then_24 : decode cX2_then 24 = .ok (.ifCond .eq 21, 3) := by decide +kernel
theorem dX2_then_27 : decode cX2_then 27 = .ok (.iload 4, 2) := by decide +kernel
theorem dX2_then_29 : decode cX2_then 29 = .ok (.ifCond .eq 22, 3) := by decide +kernel
theorem dX2_then_32 : decode cX2_then 32 = .ok (.iload_n 3, 1) := by decide +kernel
theorem dX2_then_33 : decode cX2_then 33 = .ok (.iconst (-1), 1) := by decide +kernel
theorem dX2_then_34 : decode cX2_then 34 = .ok (.if_icmp .eq 17, 3) := by decide +kernel
theorem dX2_then_37 : decode cX2_then 37 = .ok (.aload_n 0, 1) := by decide +kernel
theorem dX2_then_38 : decode cX2_then 38 = .ok (.iload_n 3, 1) := by decide +kernel
theorem dX2_then_39 : decode cX2_then 39 = .ok (.invokevirtual 266, 3) := by decide +kernel
theorem dX2_then_42 : decode cX2_then 42 = .ok (.ifCond .ne 9, 3) := by decide +kernel
theorem dX2_then_45 : decode cX2_then 45 = .ok (.aload_n 0, 1) := by decide +kernel
theorem dX2_then_46 : decode cX2_then 46 = .ok (.iconst 1, 1) := by decide +kernel
theorem dX2_then_47 : decode cX2_then 47 = .ok (.invokevirtual 257, 3) := by decide +kernel
theorem dX2_then_50 : decode cX2_then 50 = .ok (.ireturn, 1) := by decide +kernel
theorem dX2_then_51 : decode cX2_then 51 = .ok (.aload_n 0, 1) := by decide +kernel
theorem dX2_then_52 : decode cX2_then 52 = .ok (.bipush 8, 2) := by decide +kernel
theorem dX2_then_54 : decode cX2_then 54 = .ok (.invokevirtual 254, 3) := by decide +kernel
theorem dX2_then_57 : decode cX2_then 57 = .ok (.ifCond .eq 9, 3) := by decide +kernel
theorem dX2_then_60 : decode cX2_then 60 = .ok (.aload_n 0, 1) := by decide +kernel
theorem dX2_then_61 : decode cX2_then 61 = .ok (.iconst 2, 1) := by decide +kernel
theorem dX2_then_62 : decode cX2_then 62 = .ok (.invokevirtual 257, 3) := by decide +kernel
theorem dX2_then_65 : decode cX2_then 65 = .ok (.ireturn, 1) := by decide +kernel
theorem dX2_then_66 : decode cX2_then 66 = .ok (.iload 4, 2) := by decide +kernel
theorem dX2_then_68 : decode cX2_then 68 = .ok (.ifCond .eq 12, 3) := by decide +kernel
theorem dX2_then_71 : decode cX2_then 71 = .ok (.iload_n 3, 1) := by decide +kernel
theorem dX2_then_72 : decode cX2_then 72 = .ok (.iconst (-1), 1) := by decide +kernel
theorem dX2_then_73 : decode cX2_then 73 = .ok (.if_icmp .eq 7, 3) := by decide +kernel
theorem dX2_then_76 : decode cX2_then 76 = .ok (.iconst 1, 1) := by decide +kernel
theorem dX2_then_77 : decode cX2_then 77 = .ok (.goto 4, 3) := by decide +kernel
theorem dX2_then_80 : decode cX2_then 80 = .ok (.iconst 0, 1) := by decide +kernel
theorem dX2_then_81 : decode cX2_then 81 = .ok (.istore 5, 2) := by decide +kernel
theorem dX2_then_83 : decode cX2_then 83 = .ok (.aload_n 0, 1) := by decide +kernel
theorem dX2_then_84 : decode cX2_then 84 = .ok (.bipush (-2), 2) := by decide +kernel
theorem dX2_then_86 : decode cX2_then 86 = .ok (.iload_n 1, 1) := by decide +kernel
theorem dX2_then_87 : decode cX2_then 87 = .ok (.isub, 1) := by decide +kernel
theorem dX2_then_88 : decode cX2_then 88 = .ok (.iload_n 2, 1) := by decide +kernel
theorem dX2_then_89 : decode cX2_then 89 = .ok (.iconst (-1), 1) := by decide +kernel
theorem dX2_then_90 : decode cX2_then 90 = .ok (.if_icmp .ne 7, 3) := by decide +kernel
theorem dX2_then_93 : decode cX2_then 93 = .ok (.iconst 0, 1) := by decide +kernel
theorem dX2_then_94 : decode cX2_then 94 = .ok (.goto 4, 3) := by decide +kernel
theorem dX2_then_97 : decode cX2_then 97 = .ok (.iconst 1, 1) := by decide +kernel
theorem dX2_then_98 : decode cX2_then 98 = .ok (.iload_n 2, 1) := by decide +kernel
theorem dX2_then_99 : decode cX2_then 99 = .ok (.iload 5, 2) := by decide +kernel
theorem dX2_then_101 : decode cX2_then 101 = .ok (.ifCond .eq 7, 3) := by decide +kernel
theorem dX2_then_104 : decode cX2_then 104 = .ok (.iconst 1, 1) := by decide +kernel
theorem dX2_then_105 : decode cX2_then 105 = .ok (.goto 4, 3) := by decide +kernel
theorem dX2_then_108 : decode cX2_then 108 = .ok (.iconst 0, 1) := by decide +kernel
theorem dX2_then_109 : decode cX2_then 109 = .ok (.iload_n 3, 1) := by decide +kernel
theorem dX2_then_110 : decode cX2_then 110 = .ok (.invokevirtual 220, 3) := by decide +kernel
theorem dX2_then_113 : decode cX2_then 113 = .ok (.invokestatic 155, 3) := by decide +kernel
theorem dX2_then_116 : decode cX2_then 116 = .ok (.ireturn, 1) := by decide +kernel
section WALK
variable {p : Program} {l : Launch} {e : Env} {R : Room} {s : State} {m : MethodId} {args : Array Value} {below : List Frame} {meth : Method} {c : Code} {H : Heap} {locs : List Loc} {cells slots : Nat}
variable {E : Ev} {h0 : Nat} {P0 : Le} {kc0 ks0 : Nat} {S0 : State} {A : Nat → Prop} {P : Le} {ls : Array Slot}
theorem m2_isKept_J26 {b0 : Int} {V : Mv} {Q : Int → Mv → Prop} {PX : Px} (X : Cx E 1 h0 P0 kc0 ks0 S0 A p l R s m args meth c cX2_isKept 2 (some .boolean) 3) (hM : inM V) (hS : HS E 1 h0 P0 kc0 ks0 (sbs []) A s.heap P (toC V) ZM H locs cells slots) (hl : lv_has ls 2 []) (sr0 : inR b0) (hw : w2_isKept_J26 b0 V Q) : W p l e R s m args below meth c H locs cells slots (MQx below (QT E 1 h0 true P0 kc0 ks0 (sbs []) A (QL (fun x V1 Z1 => Z1 = ZM ∧ Q x V1)) (PL PX) s) s) (F0 m 26 ls [.int (I3 b0)]) := by
  have hx := X.2.1
  have hb := X.2.2.1
  unfold w2_isKept_J26 at hw
  exact z_rz X hS hM sr0 ⟨hw.1, rfl, hw.2⟩ dX2_isKept_26
theorem m2_isKept_J25 {V : Mv} {Q : Int → Mv → Prop} {PX : Px} (X : Cx E 1 h0 P0 kc0 ks0 S0 A p l R s m args meth c cX2_isKept 2 (some .boolean) 3) (hM : inM V) (hS : HS E 1 h0 P0 kc0 ks0 (sbs []) A s.heap P (toC V) ZM H locs cells slots) (hl : lv_has ls 2 []) (hw : w2_isKept_J25  V Q) : W p l e R s m args below meth c H locs cells slots (MQx below (QT E 1 h0 true P0 kc0 ks0 (sbs []) A (QL (fun x V1 Z1 => Z1 = ZM ∧ Q x V1)) (PL PX) s) s) (F0 m 25 ls []) := by
  have hx := X.2.1
  have hb := X.2.2.1
  unfold w2_isKept_J25 at hw
  refine z_iconst hx hb dX2_isKept_25 ?_
  exact m2_isKept_J26 X hM hS (lv_sub hl [] rfl) (⟨by decide, by decide⟩) hw
theorem m2_isKept {a1 : Int} {V : Mv} {Q : Int → Mv → Prop} {PX : Px} (r1 : inR a1) (hM : inM V) (hw : w2_isKept a1 V Q) : MT l S0 E 1 h0 yX2_isKept cX2_isKept 2 (some .boolean) 3 true (sbs []) [.int (I3 a1)] (toC V) ZM (QL (fun x V1 Z1 => Z1 = ZM ∧ Q x V1)) (PL PX) := by
  refine mt_of Gk1 (by decide) rfl (Nat.le_of_ble_eq_true rfl) ?_
  intro p e s m below meth c A P ls X hS hl
  have hl : lv_has ls 2 [(0, .ref h0), (1, .int (I3 a1))] := hl
  have hx := X.2.1
  have hb := X.2.2.1
  unfold w2_isKept at hw
  refine lv_aload_n hx hb dX2_isKept_0 rfl (lv_at hl 0 rfl) ?_
  refine lv_iload_n hx hb dX2_isKept_1 rfl (lv_at hl 1 rfl) ?_
  refine z_iconst hx hb dX2_isKept_2 ?_
  refine z_callI X hS (m2_isKind r1 (⟨by decide, by decide⟩) hM hw) gv2_179 hy2_isKind rfl (by omega) (by decide) (sbs_sub rfl) hl.1 (Nat.le_of_ble_eq_true rfl) dX2_isKept_3 rfl (fun x1 V3 Z6 h2 hM4 hw P5 H locs c1 s1 hP hS => ?_)
  obtain ⟨rfl, hw⟩ := hw
  refine z_zeq (tgt := 25) hx hb h2 hw dX2_isKept_6 (by decide) (fun hc hw => ?_) (fun hc hw => ?_)
  · exact m2_isKept_J25 X hM4 hS (lv_sub hl [] rfl)  hw
  · refine lv_aload_n hx hb dX2_isKept_9 rfl (lv_at hl 0 rfl) ?_
    refine r_ga X hS f2_6 dX2_isKept_10 ?_
    refine z_bipush hx hb dX2_isKept_13 (by decide +kernel) ?_
    refine lv_iload_n hx hb dX2_isKept_15 rfl (lv_at hl 1 rfl) ?_
    refine z_sub hx hb hw dX2_isKept_16 (fun h7 hw => ?_)
    refine z_il X hS a2_6 hw dX2_isKept_17 (fun hw => ?_)
    refine z_zlt (tgt := 25) hx hb (hM4 6 ((-2) - a1)) hw dX2_isKept_18 (by decide) (fun hc hw => ?_) (fun hc hw => ?_)
    · exact m2_isKept_J25 X hM4 hS (lv_sub hl [] rfl)  hw
    · refine z_iconst hx hb dX2_isKept_21 ?_
      refine lv_goto (tgt := 26) hx hb dX2_isKept_22 (by decide) ?_
      exact m2_isKept_J26 X hM4 hS (lv_sub hl [] rfl) (⟨by decide, by decide⟩) hw
theorem m2_handler_J35 {V : Mv} {Q : Int → Mv → Prop} {PX : Px} (X : Cx E 1 h0 P0 kc0 ks0 S0 A p l R s m args meth c cX2_handler 3 (some .int) 4) (hM : inM V) (hS : HS E 1 h0 P0 kc0 ks0 (sbs []) A s.heap P (toC V) ZM H locs cells slots) (hl : lv_has ls 3 [(0, .ref h0)]) (hw : w2_handler_J35  V Q) : W p l e R s m args below meth c H locs cells slots (MQx below (QT E 1 h0 true P0 kc0 ks0 (sbs []) A (QL (fun x V1 Z1 => Z1 = ZM ∧ Q x V1)) (PL PX) s) s) (F0 m 35 ls []) := by
  have hx := X.2.1
  have hb := X.2.2.1
  unfold w2_handler_J35 at hw
  refine lv_aload_n hx hb dX2_handler_35 rfl (lv_at hl 0 rfl) ?_
  refine z_iconst hx hb dX2_handler_36 ?_
  refine z_callI X hS (m2_fails (⟨by decide, by decide⟩) hM hw) gv2_257 hy2_fails rfl (by omega) (by decide) (sbs_sub rfl) hl.1 (Nat.le_of_ble_eq_true rfl) dX2_handler_37 rfl (fun x1 V3 Z6 h2 hM4 hw P5 H locs c1 s1 hP hS => ?_)
  obtain ⟨rfl, hw⟩ := hw
  exact z_ri X hS hM4 h2 ⟨rfl, hw⟩ dX2_handler_40
theorem m2_handler_J41 {a1 : Int} {a2 : Int} {V : Mv} {Q : Int → Mv → Prop} {PX : Px} (X : Cx E 1 h0 P0 kc0 ks0 S0 A p l R s m args meth c cX2_handler 3 (some .int) 4) (hM : inM V) (hS : HS E 1 h0 P0 kc0 ks0 (sbs []) A s.heap P (toC V) ZM H locs cells slots) (hl : lv_has ls 3 [(0, .ref h0), (1, .int (I3 a1)), (2, .int (I3 a2))]) (r1 : inR a1) (r2 : inR a2) (hw : w2_handler_J41 a1 a2 V Q) : W p l e R s m args below meth c H locs cells slots (MQx below (QT E 1 h0 true P0 kc0 ks0 (sbs []) A (QL (fun x V1 Z1 => Z1 = ZM ∧ Q x V1)) (PL PX) s) s) (F0 m 41 ls []) := by
  have hx := X.2.1
  have hb := X.2.2.1
  unfold w2_handler_J41 at hw
  refine lv_aload_n hx hb dX2_handler_41 rfl (lv_at hl 0 rfl) ?_
  refine z_gi X hS f2_33 dX2_handler_42 ?_
  refine z_sipush hx hb dX2_handler_45 (by decide +kernel) ?_
  refine z_ine (tgt := 57) hx hb (hM 33 0) (⟨by decide, by decide⟩) hw dX2_handler_48 (by decide) (fun hc hw => ?_) (fun hc hw => ?_)
  · refine lv_aload_n hx hb dX2_handler_57 rfl (lv_at hl 0 rfl) ?_
    refine r_ga X hS f2_31 dX2_handler_58 ?_
    refine lv_aload_n hx hb dX2_handler_61 rfl (lv_at hl 0 rfl) ?_
    refine z_gi X hS f2_33 dX2_handler_62 ?_
    refine lv_iload_n hx hb dX2_handler_65 rfl (lv_at hl 1 rfl) ?_
    refine z_is X hS hM a2_31 r1 hw dX2_handler_66 (fun V7 hM8 hw H locs hS => ?_)
    refine lv_aload_n hx hb dX2_handler_67 rfl (lv_at hl 0 rfl) ?_
    refine r_ga X hS f2_32 dX2_handler_68 ?_
    refine lv_aload_n hx hb dX2_handler_71 rfl (lv_at hl 0 rfl) ?_
    refine z_gi X hS f2_33 dX2_handler_72 ?_
    refine lv_iload_n hx hb dX2_handler_75 rfl (lv_at hl 2 rfl) ?_
    refine z_is X hS hM8 a2_32 r2 hw dX2_handler_76 (fun V9 hM10 hw H locs hS => ?_)
    refine lv_aload_n hx hb dX2_handler_77 rfl (lv_at hl 0 rfl) ?_
    refine lv_dup hx hb dX2_handler_78 rfl ?_
    refine z_gi X hS f2_33 dX2_handler_79 ?_
    refine z_iconst hx hb dX2_handler_82 ?_
    refine z_add hx hb hw dX2_handler_83 (fun h11 hw => ?_)
    refine z_pi X hS hM10 f2_33 p2_33 h11 hw dX2_handler_84 (fun V12 hM13 hw H locs hS => ?_)
    refine lv_aload_n hx hb dX2_handler_87 rfl (lv_at hl 0 rfl) ?_
    refine z_gi X hS f2_33 dX2_handler_88 ?_
    refine z_iconst hx hb dX2_handler_91 ?_
    refine z_sub hx hb hw dX2_handler_92 (fun h14 hw => ?_)
    exact z_ri X hS hM13 h14 ⟨rfl, hw⟩ dX2_handler_93
  · refine lv_aload_n hx hb dX2_handler_51 rfl (lv_at hl 0 rfl) ?_
    refine z_iconst hx hb dX2_handler_52 ?_
    refine z_callI X hS (m2_fails (⟨by decide, by decide⟩) hM hw) gv2_257 hy2_fails rfl (by omega) (by decide) (sbs_sub rfl) hl.1 (Nat.le_of_ble_eq_true rfl) dX2_handler_53 rfl (fun x15 V17 Z20 h16 hM18 hw P19 H locs c1 s1 hP hS => ?_)
    obtain ⟨rfl, hw⟩ := hw
    exact z_ri X hS hM18 h16 ⟨rfl, hw⟩ dX2_handler_56
theorem m2_handler {a1 : Int} {a2 : Int} {V : Mv} {Q : Int → Mv → Prop} {PX : Px} (r1 : inR a1) (r2 : inR a2) (hM : inM V) (hw : w2_handler a1 a2 V Q) : MT l S0 E 1 h0 yX2_handler cX2_handler 3 (some .int) 4 true (sbs []) [.int (I3 a1), .int (I3 a2)] (toC V) ZM (QL (fun x V1 Z1 => Z1 = ZM ∧ Q x V1)) (PL PX) := by
  refine mt_of Gk1 (by decide) rfl (Nat.le_of_ble_eq_true rfl) ?_
  intro p e s m below meth c A P ls X hS hl
  have hl : lv_has ls 3 [(0, .ref h0), (1, .int (I3 a1)), (2, .int (I3 a2))] := hl
  have hx := X.2.1
  have hb := X.2.2.1
  unfold w2_handler at hw
  refine lv_aload_n hx hb dX2_handler_0 rfl (lv_at hl 0 rfl) ?_
  refine z_iconst hx hb dX2_handler_1 ?_
  refine z_pi X hS hM f2_0 p2_0 (⟨by decide, by decide⟩) hw dX2_handler_2 (fun V21 hM22 hw H locs hS => ?_)
  refine lv_iload_n hx hb dX2_handler_5 rfl (lv_at hl 1 rfl) ?_
  refine z_zlt (tgt := 35) hx hb r1 hw dX2_handler_6 (by decide) (fun hc hw => ?_) (fun hc hw => ?_)
  · exact m2_handler_J35 X hM22 hS (lv_sub hl [0] rfl)  hw
  · refine lv_iload_n hx hb dX2_handler_9 rfl (lv_at hl 1 rfl) ?_
    refine z_iconst hx hb dX2_handler_10 ?_
    refine z_igt (tgt := 35) hx hb r1 (⟨by decide, by decide⟩) hw dX2_handler_11 (by decide) (fun hc hw => ?_) (fun hc hw => ?_)
    · exact m2_handler_J35 X hM22 hS (lv_sub hl [0] rfl)  hw
    · refine lv_aload_n hx hb dX2_handler_14 rfl (lv_at hl 0 rfl) ?_
      refine lv_iload_n hx hb dX2_handler_15 rfl (lv_at hl 2 rfl) ?_
      refine z_callI X hS (m2_isValue r2 hM22 hw) gv2_260 hy2_isValue rfl (by omega) (by decide) (sbs_sub rfl) hl.1 (Nat.le_of_ble_eq_true rfl) dX2_handler_16 rfl (fun x23 V25 Z28 h24 hM26 hw P27 H locs c1 s1 hP hS => ?_)
      obtain ⟨rfl, hw⟩ := hw
      refine z_zeq (tgt := 35) hx hb h24 hw dX2_handler_19 (by decide) (fun hc hw => ?_) (fun hc hw => ?_)
      · exact m2_handler_J35 X hM26 hS (lv_sub hl [0] rfl)  hw
      · refine lv_iload_n hx hb dX2_handler_22 rfl (lv_at hl 1 rfl) ?_
        refine z_iconst hx hb dX2_handler_23 ?_
        refine z_ile (tgt := 41) hx hb r1 (⟨by decide, by decide⟩) hw dX2_handler_24 (by decide) (fun hc hw => ?_) (fun hc hw => ?_)
        · exact m2_handler_J41 X hM26 hS (lv_sub hl [0, 1, 2] rfl) r1 r2 hw
        · refine lv_aload_n hx hb dX2_handler_27 rfl (lv_at hl 0 rfl) ?_
          refine lv_iload_n hx hb dX2_handler_28 rfl (lv_at hl 2 rfl) ?_
          refine z_callI X hS (m2_isKept r2 hM26 hw) gv2_263 hy2_isKept rfl (by omega) (by decide) (sbs_sub rfl) hl.1 (Nat.le_of_ble_eq_true rfl) dX2_handler_29 rfl (fun x29 V31 Z34 h30 hM32 hw P33 H locs c1 s1 hP hS => ?_)
          obtain ⟨rfl, hw⟩ := hw
          refine z_zne (tgt := 41) hx hb h30 hw dX2_handler_32 (by decide) (fun hc hw => ?_) (fun hc hw => ?_)
          · exact m2_handler_J41 X hM32 hS (lv_sub hl [0, 1, 2] rfl) r1 r2 hw
          · exact m2_handler_J35 X hM32 hS (lv_sub hl [0] rfl)  hw
theorem m2_thenable_J51 {V : Mv} {Q : Int → Mv → Prop} {PX : Px} (X : Cx E 1 h0 P0 kc0 ks0 S0 A p l R s m args meth c cX2_thenable 7 (some .int) 3) (hM : inM V) (hS : HS E 1 h0 P0 kc0 ks0 (sbs []) A s.heap P (toC V) ZM H locs cells slots) (hl : lv_has ls 7 [(0, .ref h0)]) (hw : w2_thenable_J51  V Q) : W p l e R s m args below meth c H locs cells slots (MQx below (QT E 1 h0 true P0 kc0 ks0 (sbs []) A (QL (fun x V1 Z1 => Z1 = ZM ∧ Q x V1)) (PL PX) s) s) (F0 m 51 ls []) := by
  have hx := X.2.1
  have hb := X.2.2.1
  unfold w2_thenable_J51 at hw
  refine lv_aload_n hx hb dX2_thenable_51 rfl (lv_at hl 0 rfl) ?_
  refine z_iconst hx hb dX2_thenable_52 ?_
  refine z_callI X hS (m2_fails (⟨by decide, by decide⟩) hM hw) gv2_257 hy2_fails rfl (by omega) (by decide) (sbs_sub rfl) hl.1 (Nat.le_of_ble_eq_true rfl) dX2_thenable_53 rfl (fun x1 V3 Z6 h2 hM4 hw P5 H locs c1 s1 hP hS => ?_)
  obtain ⟨rfl, hw⟩ := hw
  exact z_ri X hS hM4 h2 ⟨rfl, hw⟩ dX2_thenable_56
theorem m2_thenable {a1 : Int} {a2 : Int} {a3 : Int} {a4 : Int} {a5 : Int} {V : Mv} {Q : Int → Mv → Prop} {PX : Px} (r1 : inR a1) (r2 : inR a2) (r3 : inR a3) (r4 : inR a4) (r5 : inR a5) (hM : inM V) (hw : w2_thenable a1 a2 a3 a4 a5 V Q) : MT l S0 E 1 h0 yX2_thenable cX2_thenable 7 (some .int) 3 true (sbs []) [.int (I3 a1), .int (I3 a2), .int (I3 a3), .int (I3 a4), .int (I3 a5)] (toC V) ZM (QL (fun x V1 Z1 => Z1 = ZM ∧ Q x V1)) (PL PX) := by
  refine mt_of Gk1 (by decide) rfl (Nat.le_of_ble_eq_true rfl) ?_
  intro p e s m below meth c A P ls X hS hl
  have hl : lv_has ls 7 [(0, .ref h0), (1, .int (I3 a1)), (2, .int (I3 a2)), (3, .int (I3 a3)), (4, .int (I3 a4)), (5, .int (I3 a5))] := hl
  have hx := X.2.1
  have hb := X.2.2.1
  unfold w2_thenable at hw
  refine lv_aload_n hx hb dX2_thenable_0 rfl (lv_at hl 0 rfl) ?_
  refine z_iconst hx hb dX2_thenable_1 ?_
  refine z_pi X hS hM f2_0 p2_0 (⟨by decide, by decide⟩) hw dX2_thenable_2 (fun V7 hM8 hw H locs hS => ?_)
  refine lv_iload_n hx hb dX2_thenable_5 rfl (lv_at hl 1 rfl) ?_
  refine z_zlt (tgt := 51) hx hb r1 hw dX2_thenable_6 (by decide) (fun hc hw => ?_) (fun hc hw => ?_)
  · exact m2_thenable_J51 X hM8 hS (lv_sub hl [0] rfl)  hw
  · refine lv_iload_n hx hb dX2_thenable_9 rfl (lv_at hl 1 rfl) ?_
    refine z_iconst hx hb dX2_thenable_10 ?_
    refine z_igt (tgt := 51) hx hb r1 (⟨by decide, by decide⟩) hw dX2_thenable_11 (by decide) (fun hc hw => ?_) (fun hc hw => ?_)
    · exact m2_thenable_J51 X hM8 hS (lv_sub hl [0] rfl)  hw
    · refine lv_iload_n hx hb dX2_thenable_14 rfl (lv_at hl 2 rfl) ?_
      refine z_zlt (tgt := 51) hx hb r2 hw dX2_thenable_15 (by decide) (fun hc hw => ?_) (fun hc hw => ?_)
      · exact m2_thenable_J51 X hM8 hS (lv_sub hl [0] rfl)  hw
      · refine lv_iload_n hx hb dX2_thenable_18 rfl (lv_at hl 2 rfl) ?_
        refine z_iconst hx hb dX2_thenable_19 ?_
        refine z_igt (tgt := 51) hx hb r2 (⟨by decide, by decide⟩) hw dX2_thenable_20 (by decide) (fun hc hw => ?_) (fun hc hw => ?_)
        · exact m2_thenable_J51 X hM8 hS (lv_sub hl [0] rfl)  hw
        · refine lv_iload hx hb dX2_thenable_23 (lv_at hl 4 rfl) ?_
          refine z_zlt (tgt := 51) hx hb r4 hw dX2_thenable_25 (by decide) (fun hc hw => ?_) (fun hc hw => ?_)
          · exact m2_thenable_J51 X hM8 hS (lv_sub hl [0] rfl)  hw
          · refine lv_iload hx hb dX2_thenable_28 (lv_at hl 4 rfl) ?_
            refine z_iconst hx hb dX2_thenable_30 ?_
            refine z_igt (tgt := 51) hx hb r4 (⟨by decide, by decide⟩) hw dX2_thenable_31 (by decide) (fun hc hw => ?_) (fun hc hw => ?_)
            · exact m2_thenable_J51 X hM8 hS (lv_sub hl [0] rfl)  hw
            · refine lv_aload_n hx hb dX2_thenable_34 rfl (lv_at hl 0 rfl) ?_
              refine lv_iload_n hx hb dX2_thenable_35 rfl (lv_at hl 3 rfl) ?_
              refine z_callI X hS (m2_isValue r3 hM8 hw) gv2_260 hy2_isValue rfl (by omega) (by decide) (sbs_sub rfl) hl.1 (Nat.le_of_ble_eq_true rfl) dX2_thenable_36 rfl (fun x9 V11 Z14 h10 hM12 hw P13 H locs c1 s1 hP hS => ?_)
              obtain ⟨rfl, hw⟩ := hw
              refine z_zeq (tgt := 51) hx hb h10 hw dX2_thenable_39 (by decide) (fun hc hw => ?_) (fun hc hw => ?_)
              · exact m2_thenable_J51 X hM12 hS (lv_sub hl [0] rfl)  hw
              · refine lv_aload_n hx hb dX2_thenable_42 rfl (lv_at hl 0 rfl) ?_
                refine lv_iload hx hb dX2_thenable_43 (lv_at hl 5 rfl) ?_
                refine z_callI X hS (m2_isValue r5 hM12 hw) gv2_260 hy2_isValue rfl (by omega) (by decide) (sbs_sub rfl) hl.1 (Nat.le_of_ble_eq_true rfl) dX2_thenable_45 rfl (fun x15 V17 Z20 h16 hM18 hw P19 H locs c1 s1 hP hS => ?_)
                obtain ⟨rfl, hw⟩ := hw
                refine z_zne (tgt := 57) hx hb h16 hw dX2_thenable_48 (by decide) (fun hc hw => ?_) (fun hc hw => ?_)
                · refine lv_aload_n hx hb dX2_thenable_57 rfl (lv_at hl 0 rfl) ?_
                  refine z_bipush hx hb dX2_thenable_58 (by decide +kernel) ?_
                  refine z_callI X hS (m2_isFull (⟨by decide, by decide⟩) hM18 hw) gv2_254 hy2_isFull rfl (by omega) (by decide) (sbs_sub rfl) hl.1 (Nat.le_of_ble_eq_true rfl) dX2_thenable_60 rfl (fun x21 V23 Z26 h22 hM24 hw P25 H locs c1 s1 hP hS => ?_)
                  obtain ⟨rfl, hw⟩ := hw
                  refine z_zeq (tgt := 72) hx hb h22 hw dX2_thenable_63 (by decide) (fun hc hw => ?_) (fun hc hw => ?_)
                  · refine lv_aload_n hx hb dX2_thenable_72 rfl (lv_at hl 0 rfl) ?_
                    refine z_iconst hx hb dX2_thenable_73 ?_
                    refine z_callI X hS (m2_newObject (⟨by decide, by decide⟩) hM24 hw) gv2_148 hy2_newObject rfl (by omega) (by decide) (sbs_sub rfl) hl.1 (Nat.le_of_ble_eq_true rfl) dX2_thenable_74 rfl (fun x27 V29 Z32 h28 hM30 hw P31 H locs c1 s1 hP hS => ?_)
                    obtain ⟨rfl, hw⟩ := hw
                    refine lv_istore (lv' := [(6, .int (I3 x27)), (0, .ref h0), (1, .int (I3 a1)), (2, .int (I3 a2)), (3, .int (I3 a3)), (4, .int (I3 a4)), (5, .int (I3 a5))]) hx hb dX2_thenable_77 hl (by decide) rfl (fun ls hl => ?_)
                    refine lv_aload_n hx hb dX2_thenable_79 rfl (lv_at hl 1 rfl) ?_
                    refine r_ga X hS f2_8 dX2_thenable_80 ?_
                    refine lv_iload hx hb dX2_thenable_83 (lv_at hl 0 rfl) ?_
                    refine lv_iload_n hx hb dX2_thenable_85 rfl (lv_at hl 2 rfl) ?_
                    refine z_is X hS hM30 a2_8 r1 hw dX2_thenable_86 (fun V33 hM34 hw H locs hS => ?_)
                    refine lv_aload_n hx hb dX2_thenable_87 rfl (lv_at hl 1 rfl) ?_
                    refine r_ga X hS f2_9 dX2_thenable_88 ?_
                    refine lv_iload hx hb dX2_thenable_91 (lv_at hl 0 rfl) ?_
                    refine lv_iload_n hx hb dX2_thenable_93 rfl (lv_at hl 3 rfl) ?_
                    refine z_is X hS hM34 a2_9 r2 hw dX2_thenable_94 (fun V35 hM36 hw H locs hS => ?_)
                    refine lv_aload_n hx hb dX2_thenable_95 rfl (lv_at hl 1 rfl) ?_
                    refine r_ga X hS f2_10 dX2_thenable_96 ?_
                    refine lv_iload hx hb dX2_thenable_99 (lv_at hl 0 rfl) ?_
                    refine lv_iload_n hx hb dX2_thenable_101 rfl (lv_at hl 4 rfl) ?_
                    refine z_is X hS hM36 a2_10 r3 hw dX2_thenable_102 (fun V37 hM38 hw H locs hS => ?_)
                    refine lv_aload_n hx hb dX2_thenable_103 rfl (lv_at hl 1 rfl) ?_
                    refine r_ga X hS f2_11 dX2_thenable_104 ?_
                    refine lv_iload hx hb dX2_thenable_107 (lv_at hl 0 rfl) ?_
                    refine lv_iload hx hb dX2_thenable_109 (lv_at hl 5 rfl) ?_
                    refine z_is X hS hM38 a2_11 r4 hw dX2_thenable_111 (fun V39 hM40 hw H locs hS => ?_)
                    refine lv_aload_n hx hb dX2_thenable_112 rfl (lv_at hl 1 rfl) ?_
                    refine r_ga X hS f2_12 dX2_thenable_113 ?_
                    refine lv_iload hx hb dX2_thenable_116 (lv_at hl 0 rfl) ?_
                    refine lv_iload hx hb dX2_thenable_118 (lv_at hl 6 rfl) ?_
                    refine z_is X hS hM40 a2_12 r5 hw dX2_thenable_120 (fun V41 hM42 hw H locs hS => ?_)
                    refine lv_iload hx hb dX2_thenable_121 (lv_at hl 0 rfl) ?_
                    refine z_vo2 X hS hw gs2_155 (by omega) hl.1 (Nat.le_of_ble_eq_true rfl) dX2_thenable_123 (fun h43 hw => ?_)
                    exact z_ri X hS hM42 h43 ⟨rfl, hw⟩ dX2_thenable_126
                  · refine lv_aload_n hx hb dX2_thenable_66 rfl (lv_at hl 0 rfl) ?_
                    refine z_iconst hx hb dX2_thenable_67 ?_
                    refine z_callI X hS (m2_fails (⟨by decide, by decide⟩) hM24 hw) gv2_257 hy2_fails rfl (by omega) (by decide) (sbs_sub rfl) hl.1 (Nat.le_of_ble_eq_true rfl) dX2_thenable_68 rfl (fun x44 V46 Z49 h45 hM47 hw P48 H locs c1 s1 hP hS => ?_)
                    obtain ⟨rfl, hw⟩ := hw
                    exact z_ri X hS hM47 h45 ⟨rfl, hw⟩ dX2_thenable_71
                · exact m2_thenable_J51 X hM18 hS (lv_sub hl [0] rfl)  hw
theorem m2_settle_J96 {a5 : Int} {V : Mv} {Q : Int → Mv → Prop} {PX : Px} (X : Cx E 1 h0 P0 kc0 ks0 S0 A p l R s m args meth c cX2_settle 6 (some .boolean) 4) (hM : inM V) (hS : HS E 1 h0 P0 kc0 ks0 (sbs []) A s.heap P (toC V) ZM H locs cells slots) (hl : lv_has ls 6 [(5, .int (I3 a5))]) (r5 : inR a5) (hw : w2_settle_J96 a5 V Q) : W p l e R s m args below meth c H locs cells slots (MQx below (QT E 1 h0 true P0 kc0 ks0 (sbs []) A (QL (fun x V1 Z1 => Z1 = ZM ∧ Q x V1)) (PL PX) s) s) (F0 m 96 ls []) := by
  have hx := X.2.1
  have hb := X.2.2.1
  unfold w2_settle_J96 at hw
  refine lv_iload hx hb dX2_settle_96 (lv_at hl 0 rfl) ?_
  exact z_rz X hS hM r5 ⟨hw.1, rfl, hw.2⟩ dX2_settle_98
theorem m2_settle_J73 {a2 : Int} {a3 : Int} {a4 : Int} {b0 : Int} {V : Mv} {Q : Int → Mv → Prop} {PX : Px} (X : Cx E 1 h0 P0 kc0 ks0 S0 A p l R s m args meth c cX2_settle 6 (some .boolean) 4) (hM : inM V) (hS : HS E 1 h0 P0 kc0 ks0 (sbs []) A s.heap P (toC V) ZM H locs cells slots) (hl : lv_has ls 6 [(0, .ref h0), (2, .int (I3 a2)), (3, .int (I3 a3)), (4, .int (I3 a4))]) (r2 : inR a2) (r3 : inR a3) (r4 : inR a4) (sr0 : inR b0) (hw : w2_settle_J73 a2 a3 a4 b0 V Q) : W p l e R s m args below meth c H locs cells slots (MQx below (QT E 1 h0 true P0 kc0 ks0 (sbs []) A (QL (fun x V1 Z1 => Z1 = ZM ∧ Q x V1)) (PL PX) s) s) (F0 m 73 ls [.int (I3 b0)]) := by
  have hx := X.2.1
  have hb := X.2.2.1
  unfold w2_settle_J73 at hw
  refine lv_istore (lv' := [(5, .int (I3 b0)), (0, .ref h0), (2, .int (I3 a2)), (3, .int (I3 a3)), (4, .int (I3 a4))]) hx hb dX2_settle_73 hl (by decide) rfl (fun ls hl => ?_)
  refine lv_iload_n hx hb dX2_settle_75 rfl (lv_at hl 2 rfl) ?_
  refine z_zeq (tgt := 89) hx hb r2 hw dX2_settle_76 (by decide) (fun hc hw => ?_) (fun hc hw => ?_)
  · refine lv_aload_n hx hb dX2_settle_89 rfl (lv_at hl 1 rfl) ?_
    refine lv_iload hx hb dX2_settle_90 (lv_at hl 4 rfl) ?_
    refine lv_iload_n hx hb dX2_settle_92 rfl (lv_at hl 3 rfl) ?_
    refine z_callV X hS (m2_resolve r4 r3 hM hw) gv2_183 hy2_resolve rfl (by omega) (by decide) (sbs_sub rfl) hl.1 (Nat.le_of_ble_eq_true rfl) dX2_settle_93 rfl (fun x1 V3 Z6 h2 hM4 hw P5 H locs c1 s1 hP hS => ?_)
    obtain ⟨rfl, hw⟩ := hw
    exact m2_settle_J96 X hM4 hS (lv_sub hl [0] rfl) sr0 hw
  · refine lv_aload_n hx hb dX2_settle_79 rfl (lv_at hl 1 rfl) ?_
    refine lv_iload hx hb dX2_settle_80 (lv_at hl 4 rfl) ?_
    refine lv_iload_n hx hb dX2_settle_82 rfl (lv_at hl 3 rfl) ?_
    refine z_callV X hS (m2_reject r4 r3 hM hw) gv2_197 hy2_reject rfl (by omega) (by decide) (sbs_sub rfl) hl.1 (Nat.le_of_ble_eq_true rfl) dX2_settle_83 rfl (fun x7 V9 Z12 h8 hM10 hw P11 H locs c1 s1 hP hS => ?_)
    obtain ⟨rfl, hw⟩ := hw
    refine lv_goto (tgt := 96) hx hb dX2_settle_86 (by decide) ?_
    exact m2_settle_J96 X hM10 hS (lv_sub hl [0] rfl) sr0 hw
theorem m2_settle_J35 {a1 : Int} {a2 : Int} {a3 : Int} {b1 : Int} {V : Mv} {Q : Int → Mv → Prop} {PX : Px} (X : Cx E 1 h0 P0 kc0 ks0 S0 A p l R s m args meth c cX2_settle 6 (some .boolean) 4) (hM : inM V) (hS : HS E 1 h0 P0 kc0 ks0 (sbs []) A s.heap P (toC V) ZM H locs cells slots) (hl : lv_has ls 6 [(0, .ref h0), (1, .int (I3 a1)), (2, .int (I3 a2)), (3, .int (I3 a3))]) (r1 : inR a1) (r2 : inR a2) (r3 : inR a3) (sr1 : inR b1) (hw : w2_settle_J35 a1 a2 a3 b1 V Q) : W p l e R s m args below meth c H locs cells slots (MQx below (QT E 1 h0 true P0 kc0 ks0 (sbs []) A (QL (fun x V1 Z1 => Z1 = ZM ∧ Q x V1)) (PL PX) s) s) (F0 m 35 ls [.int (I3 b1), .ref h0]) := by
  have hx := X.2.1
  have hb := X.2.2.1
  unfold w2_settle_J35 at hw
  refine z_pi X hS hM f2_0 p2_0 sr1 hw dX2_settle_35 (fun V13 hM14 hw H locs hS => ?_)
  refine lv_aload_n hx hb dX2_settle_38 rfl (lv_at hl 0 rfl) ?_
  refine z_gi X hS f2_0 dX2_settle_39 ?_
  refine z_zle (tgt := 47) hx hb (hM14 0 0) hw dX2_settle_42 (by decide) (fun hc hw => ?_) (fun hc hw => ?_)
  · refine lv_aload_n hx hb dX2_settle_47 rfl (lv_at hl 0 rfl) ?_
    refine r_ga X hS f2_6 dX2_settle_48 ?_
    refine z_bipush hx hb dX2_settle_51 (by decide +kernel) ?_
    refine lv_iload_n hx hb dX2_settle_53 rfl (lv_at hl 1 rfl) ?_
    refine z_sub hx hb hw dX2_settle_54 (fun h15 hw => ?_)
    refine z_il X hS a2_6 hw dX2_settle_55 (fun hw => ?_)
    refine lv_istore (lv' := [(4, .int (I3 (V13 6 ((-2) - a1)))), (0, .ref h0), (1, .int (I3 a1)), (2, .int (I3 a2)), (3, .int (I3 a3))]) hx hb dX2_settle_56 hl (by decide) rfl (fun ls hl => ?_)
    refine lv_aload_n hx hb dX2_settle_58 rfl (lv_at hl 1 rfl) ?_
    refine r_ga X hS f2_14 dX2_settle_59 ?_
    refine lv_iload hx hb dX2_settle_62 (lv_at hl 0 rfl) ?_
    refine z_zl X hS a2_14 hw dX2_settle_64 (fun hw => ?_)
    refine z_zne (tgt := 72) hx hb (hM14 14 (V13 6 ((-2) - a1))) hw dX2_settle_65 (by decide) (fun hc hw => ?_) (fun hc hw => ?_)
    · refine z_iconst hx hb dX2_settle_72 ?_
      exact m2_settle_J73 X hM14 hS (lv_sub hl [1, 3, 4, 0] rfl) r2 r3 (hM14 6 ((-2) - a1)) (⟨by decide, by decide⟩) hw
    · refine z_iconst hx hb dX2_settle_68 ?_
      refine lv_goto (tgt := 73) hx hb dX2_settle_69 (by decide) ?_
      exact m2_settle_J73 X hM14 hS (lv_sub hl [1, 3, 4, 0] rfl) r2 r3 (hM14 6 ((-2) - a1)) (⟨by decide, by decide⟩) hw
  · refine z_iconst hx hb dX2_settle_45 ?_
    exact z_rz X hS hM14 (⟨by decide, by decide⟩) ⟨hw.1, rfl, hw.2⟩ dX2_settle_46
theorem m2_settle_J17 {a1 : Int} {a2 : Int} {a3 : Int} {V : Mv} {Q : Int → Mv → Prop} {PX : Px} (X : Cx E 1 h0 P0 kc0 ks0 S0 A p l R s m args meth c cX2_settle 6 (some .boolean) 4) (hM : inM V) (hS : HS E 1 h0 P0 kc0 ks0 (sbs []) A s.heap P (toC V) ZM H locs cells slots) (hl : lv_has ls 6 [(0, .ref h0), (1, .int (I3 a1)), (2, .int (I3 a2)), (3, .int (I3 a3))]) (r1 : inR a1) (r2 : inR a2) (r3 : inR a3) (hw : w2_settle_J17 a1 a2 a3 V Q) : W p l e R s m args below meth c H locs cells slots (MQx below (QT E 1 h0 true P0 kc0 ks0 (sbs []) A (QL (fun x V1 Z1 => Z1 = ZM ∧ Q x V1)) (PL PX) s) s) (F0 m 17 ls [.ref h0]) := by
  have hx := X.2.1
  have hb := X.2.2.1
  unfold w2_settle_J17 at hw
  refine z_iconst hx hb dX2_settle_17 ?_
  refine lv_goto (tgt := 35) hx hb dX2_settle_18 (by decide) ?_
  exact m2_settle_J35 X hM hS (lv_sub hl [0, 1, 2, 3] rfl) r1 r2 r3 (⟨by decide, by decide⟩) hw
theorem m2_settle {a1 : Int} {a2 : Int} {a3 : Int} {V : Mv} {Q : Int → Mv → Prop} {PX : Px} (r1 : inR a1) (r2 : inR a2) (r3 : inR a3) (hM : inM V) (hw : w2_settle a1 a2 a3 V Q) : MT l S0 E 1 h0 yX2_settle cX2_settle 6 (some .boolean) 4 true (sbs []) [.int (I3 a1), .int (I3 a2), .int (I3 a3)] (toC V) ZM (QL (fun x V1 Z1 => Z1 = ZM ∧ Q x V1)) (PL PX) := by
  refine mt_of Gk1 (by decide) rfl (Nat.le_of_ble_eq_true rfl) ?_
  intro p e s m below meth c A P ls X hS hl
  have hl : lv_has ls 6 [(0, .ref h0), (1, .int (I3 a1)), (2, .int (I3 a2)), (3, .int (I3 a3))] := hl
  have hx := X.2.1
  have hb := X.2.2.1
  unfold w2_settle at hw
  refine lv_aload_n hx hb dX2_settle_0 rfl (lv_at hl 0 rfl) ?_
  refine lv_aload_n hx hb dX2_settle_1 rfl (lv_at hl 0 rfl) ?_
  refine lv_iload_n hx hb dX2_settle_2 rfl (lv_at hl 1 rfl) ?_
  refine z_callI X hS (m2_isKept r1 hM hw) gv2_263 hy2_isKept rfl (by omega) (by decide) (sbs_sub rfl) hl.1 (Nat.le_of_ble_eq_true rfl) dX2_settle_3 rfl (fun x16 V18 Z21 h17 hM19 hw P20 H locs c1 s1 hP hS => ?_)
  obtain ⟨rfl, hw⟩ := hw
  refine z_zeq (tgt := 17) hx hb h17 hw dX2_settle_6 (by decide) (fun hc hw => ?_) (fun hc hw => ?_)
  · exact m2_settle_J17 X hM19 hS (lv_sub hl [0, 1, 2, 3] rfl) r1 r2 r3 hw
  · refine lv_aload_n hx hb dX2_settle_9 rfl (lv_at hl 0 rfl) ?_
    refine lv_iload_n hx hb dX2_settle_10 rfl (lv_at hl 3 rfl) ?_
    refine z_callI X hS (m2_isValue r3 hM19 hw) gv2_260 hy2_isValue rfl (by omega) (by decide) (sbs_sub rfl) hl.1 (Nat.le_of_ble_eq_true rfl) dX2_settle_11 rfl (fun x22 V24 Z27 h23 hM25 hw P26 H locs c1 s1 hP hS => ?_)
    obtain ⟨rfl, hw⟩ := hw
    refine z_zne (tgt := 21) hx hb h23 hw dX2_settle_14 (by decide) (fun hc hw => ?_) (fun hc hw => ?_)
    · refine lv_aload_n hx hb dX2_settle_21 rfl (lv_at hl 0 rfl) ?_
      refine z_bipush hx hb dX2_settle_22 (by decide +kernel) ?_
      refine z_callI X hS (m2_isFull (⟨by decide, by decide⟩) hM25 hw) gv2_254 hy2_isFull rfl (by omega) (by decide) (sbs_sub rfl) hl.1 (Nat.le_of_ble_eq_true rfl) dX2_settle_24 rfl (fun x28 V30 Z33 h29 hM31 hw P32 H locs c1 s1 hP hS => ?_)
      obtain ⟨rfl, hw⟩ := hw
      refine z_zeq (tgt := 34) hx hb h29 hw dX2_settle_27 (by decide) (fun hc hw => ?_) (fun hc hw => ?_)
      · refine z_iconst hx hb dX2_settle_34 ?_
        exact m2_settle_J35 X hM31 hS (lv_sub hl [0, 1, 2, 3] rfl) r1 r2 r3 (⟨by decide, by decide⟩) hw
      · refine z_iconst hx hb dX2_settle_30 ?_
        refine lv_goto (tgt := 35) hx hb dX2_settle_31 (by decide) ?_
        exact m2_settle_J35 X hM31 hS (lv_sub hl [0, 1, 2, 3] rfl) r1 r2 r3 (⟨by decide, by decide⟩) hw
    · exact m2_settle_J17 X hM25 hS (lv_sub hl [0, 1, 2, 3] rfl) r1 r2 r3 hw
theorem m2_later_J22 {V : Mv} {Q : Int → Mv → Prop} {PX : Px} (X : Cx E 1 h0 P0 kc0 ks0 S0 A p l R s m args meth c cX2_later 6 (some .int) 4) (hM : inM V) (hS : HS E 1 h0 P0 kc0 ks0 (sbs []) A s.heap P (toC V) ZM H locs cells slots) (hl : lv_has ls 6 [(0, .ref h0)]) (hw : w2_later_J22  V Q) : W p l e R s m args below meth c H locs cells slots (MQx below (QT E 1 h0 true P0 kc0 ks0 (sbs []) A (QL (fun x V1 Z1 => Z1 = ZM ∧ Q x V1)) (PL PX) s) s) (F0 m 22 ls []) := by
  have hx := X.2.1
  have hb := X.2.2.1
  unfold w2_later_J22 at hw
  refine lv_aload_n hx hb dX2_later_22 rfl (lv_at hl 0 rfl) ?_
  refine z_iconst hx hb dX2_later_23 ?_
  refine z_callI X hS (m2_fails (⟨by decide, by decide⟩) hM hw) gv2_257 hy2_fails rfl (by omega) (by decide) (sbs_sub rfl) hl.1 (Nat.le_of_ble_eq_true rfl) dX2_later_24 rfl (fun x1 V3 Z6 h2 hM4 hw P5 H locs c1 s1 hP hS => ?_)
  obtain ⟨rfl, hw⟩ := hw
  exact z_ri X hS hM4 h2 ⟨rfl, hw⟩ dX2_later_27
theorem m2_later_J109 {b0 : Int} {V : Mv} {Q : Int → Mv → Prop} {PX : Px} (X : Cx E 1 h0 P0 kc0 ks0 S0 A p l R s m args meth c cX2_later 6 (some .int) 4) (hM : inM V) (hS : HS E 1 h0 P0 kc0 ks0 (sbs []) A s.heap P (toC V) ZM H locs cells slots) (hl : lv_has ls 6 []) (sr0 : inR b0) (hw : w2_later_J109 b0 V Q) : W p l e R s m args below meth c H locs cells slots (MQx below (QT E 1 h0 true P0 kc0 ks0 (sbs []) A (QL (fun x V1 Z1 => Z1 = ZM ∧ Q x V1)) (PL PX) s) s) (F0 m 109 ls [.int (I3 b0)]) := by
  have hx := X.2.1
  have hb := X.2.2.1
  unfold w2_later_J109 at hw
  exact z_ri X hS hM sr0 ⟨rfl, hw⟩ dX2_later_109
theorem m2_later_J99 {a5 : Int} {V : Mv} {Q : Int → Mv → Prop} {PX : Px} (X : Cx E 1 h0 P0 kc0 ks0 S0 A p l R s m args meth c cX2_later 6 (some .int) 4) (hM : inM V) (hS : HS E 1 h0 P0 kc0 ks0 (sbs []) A s.heap P (toC V) ZM H locs cells slots) (hl : lv_has ls 6 [(5, .int (I3 a5))]) (r5 : inR a5) (hw : w2_later_J99 a5 V Q) : W p l e R s m args below meth c H locs cells slots (MQx below (QT E 1 h0 true P0 kc0 ks0 (sbs []) A (QL (fun x V1 Z1 => Z1 = ZM ∧ Q x V1)) (PL PX) s) s) (F0 m 99 ls []) := by
  have hx := X.2.1
  have hb := X.2.2.1
  unfold w2_later_J99 at hw
  refine lv_iload hx hb dX2_later_99 (lv_at hl 0 rfl) ?_
  refine z_zeq (tgt := 108) hx hb r5 hw dX2_later_101 (by decide) (fun hc hw => ?_) (fun hc hw => ?_)
  · refine z_iconst hx hb dX2_later_108 ?_
    exact m2_later_J109 X hM hS (lv_sub hl [] rfl) (⟨by decide, by decide⟩) hw
  · refine z_iconst hx hb dX2_later_104 ?_
    refine lv_goto (tgt := 109) hx hb dX2_later_105 (by decide) ?_
    exact m2_later_J109 X hM hS (lv_sub hl [] rfl) (⟨by decide, by decide⟩) hw
theorem m2_later_J76 {a2 : Int} {a3 : Int} {a4 : Int} {b0 : Int} {V : Mv} {Q : Int → Mv → Prop} {PX : Px} (X : Cx E 1 h0 P0 kc0 ks0 S0 A p l R s m args meth c cX2_later 6 (some .int) 4) (hM : inM V) (hS : HS E 1 h0 P0 kc0 ks0 (sbs []) A s.heap P (toC V) ZM H locs cells slots) (hl : lv_has ls 6 [(0, .ref h0), (2, .int (I3 a2)), (3, .int (I3 a3)), (4, .int (I3 a4))]) (r2 : inR a2) (r3 : inR a3) (r4 : inR a4) (sr0 : inR b0) (hw : w2_later_J76 a2 a3 a4 b0 V Q) : W p l e R s m args below meth c H locs cells slots (MQx below (QT E 1 h0 true P0 kc0 ks0 (sbs []) A (QL (fun x V1 Z1 => Z1 = ZM ∧ Q x V1)) (PL PX) s) s) (F0 m 76 ls [.int (I3 b0)]) := by
  have hx := X.2.1
  have hb := X.2.2.1
  unfold w2_later_J76 at hw
  refine lv_istore (lv' := [(5, .int (I3 b0)), (0, .ref h0), (2, .int (I3 a2)), (3, .int (I3 a3)), (4, .int (I3 a4))]) hx hb dX2_later_76 hl (by decide) rfl (fun ls hl => ?_)
  refine lv_iload_n hx hb dX2_later_78 rfl (lv_at hl 2 rfl) ?_
  refine z_zeq (tgt := 92) hx hb r2 hw dX2_later_79 (by decide) (fun hc hw => ?_) (fun hc hw => ?_)
  · refine lv_aload_n hx hb dX2_later_92 rfl (lv_at hl 1 rfl) ?_
    refine lv_iload hx hb dX2_later_93 (lv_at hl 4 rfl) ?_
    refine lv_iload_n hx hb dX2_later_95 rfl (lv_at hl 3 rfl) ?_
    refine z_callV X hS (m2_resolve r4 r3 hM hw) gv2_183 hy2_resolve rfl (by omega) (by decide) (sbs_sub rfl) hl.1 (Nat.le_of_ble_eq_true rfl) dX2_later_96 rfl (fun x7 V9 Z12 h8 hM10 hw P11 H locs c1 s1 hP hS => ?_)
    obtain ⟨rfl, hw⟩ := hw
    exact m2_later_J99 X hM10 hS (lv_sub hl [0] rfl) sr0 hw
  · refine lv_aload_n hx hb dX2_later_82 rfl (lv_at hl 1 rfl) ?_
    refine lv_iload hx hb dX2_later_83 (lv_at hl 4 rfl) ?_
    refine lv_iload_n hx hb dX2_later_85 rfl (lv_at hl 3 rfl) ?_
    refine z_callV X hS (m2_reject r4 r3 hM hw) gv2_197 hy2_reject rfl (by omega) (by decide) (sbs_sub rfl) hl.1 (Nat.le_of_ble_eq_true rfl) dX2_later_86 rfl (fun x13 V15 Z18 h14 hM16 hw P17 H locs c1 s1 hP hS => ?_)
    obtain ⟨rfl, hw⟩ := hw
    refine lv_goto (tgt := 99) hx hb dX2_later_89 (by decide) ?_
    exact m2_later_J99 X hM16 hS (lv_sub hl [0] rfl) sr0 hw
theorem m2_later {a1 : Int} {a2 : Int} {a3 : Int} {V : Mv} {Q : Int → Mv → Prop} {PX : Px} (r1 : inR a1) (r2 : inR a2) (r3 : inR a3) (hM : inM V) (hw : w2_later a1 a2 a3 V Q) : MT l S0 E 1 h0 yX2_later cX2_later 6 (some .int) 4 true (sbs []) [.int (I3 a1), .int (I3 a2), .int (I3 a3)] (toC V) ZM (QL (fun x V1 Z1 => Z1 = ZM ∧ Q x V1)) (PL PX) := by
  refine mt_of Gk1 (by decide) rfl (Nat.le_of_ble_eq_true rfl) ?_
  intro p e s m below meth c A P ls X hS hl
  have hl : lv_has ls 6 [(0, .ref h0), (1, .int (I3 a1)), (2, .int (I3 a2)), (3, .int (I3 a3))] := hl
  have hx := X.2.1
  have hb := X.2.2.1
  unfold w2_later at hw
  refine lv_aload_n hx hb dX2_later_0 rfl (lv_at hl 0 rfl) ?_
  refine z_iconst hx hb dX2_later_1 ?_
  refine z_pi X hS hM f2_0 p2_0 (⟨by decide, by decide⟩) hw dX2_later_2 (fun V19 hM20 hw H locs hS => ?_)
  refine lv_aload_n hx hb dX2_later_5 rfl (lv_at hl 0 rfl) ?_
  refine lv_iload_n hx hb dX2_later_6 rfl (lv_at hl 1 rfl) ?_
  refine z_iconst hx hb dX2_later_7 ?_
  refine z_callI X hS (m2_isKind r1 (⟨by decide, by decide⟩) hM20 hw) gv2_179 hy2_isKind rfl (by omega) (by decide) (sbs_sub rfl) hl.1 (Nat.le_of_ble_eq_true rfl) dX2_later_8 rfl (fun x21 V23 Z26 h22 hM24 hw P25 H locs c1 s1 hP hS => ?_)
  obtain ⟨rfl, hw⟩ := hw
  refine z_zeq (tgt := 22) hx hb h22 hw dX2_later_11 (by decide) (fun hc hw => ?_) (fun hc hw => ?_)
  · exact m2_later_J22 X hM24 hS (lv_sub hl [0] rfl)  hw
  · refine lv_aload_n hx hb dX2_later_14 rfl (lv_at hl 0 rfl) ?_
    refine lv_iload_n hx hb dX2_later_15 rfl (lv_at hl 3 rfl) ?_
    refine z_callI X hS (m2_isValue r3 hM24 hw) gv2_260 hy2_isValue rfl (by omega) (by decide) (sbs_sub rfl) hl.1 (Nat.le_of_ble_eq_true rfl) dX2_later_16 rfl (fun x27 V29 Z32 h28 hM30 hw P31 H locs c1 s1 hP hS => ?_)
    obtain ⟨rfl, hw⟩ := hw
    refine z_zne (tgt := 28) hx hb h28 hw dX2_later_19 (by decide) (fun hc hw => ?_) (fun hc hw => ?_)
    · refine lv_aload_n hx hb dX2_later_28 rfl (lv_at hl 0 rfl) ?_
      refine z_bipush hx hb dX2_later_29 (by decide +kernel) ?_
      refine z_callI X hS (m2_isFull (⟨by decide, by decide⟩) hM30 hw) gv2_254 hy2_isFull rfl (by omega) (by decide) (sbs_sub rfl) hl.1 (Nat.le_of_ble_eq_true rfl) dX2_later_31 rfl (fun x33 V35 Z38 h34 hM36 hw P37 H locs c1 s1 hP hS => ?_)
      obtain ⟨rfl, hw⟩ := hw
      refine z_zeq (tgt := 43) hx hb h34 hw dX2_later_34 (by decide) (fun hc hw => ?_) (fun hc hw => ?_)
      · refine lv_aload_n hx hb dX2_later_43 rfl (lv_at hl 0 rfl) ?_
        refine r_ga X hS f2_6 dX2_later_44 ?_
        refine z_bipush hx hb dX2_later_47 (by decide +kernel) ?_
        refine lv_iload_n hx hb dX2_later_49 rfl (lv_at hl 1 rfl) ?_
        refine z_sub hx hb hw dX2_later_50 (fun h39 hw => ?_)
        refine z_il X hS a2_6 hw dX2_later_51 (fun hw => ?_)
        refine lv_istore (lv' := [(4, .int (I3 (V35 6 ((-2) - a1)))), (0, .ref h0), (1, .int (I3 a1)), (2, .int (I3 a2)), (3, .int (I3 a3))]) hx hb dX2_later_52 hl (by decide) rfl (fun ls hl => ?_)
        refine lv_iload hx hb dX2_later_54 (lv_at hl 0 rfl) ?_
        refine z_zge (tgt := 61) hx hb (hM36 6 ((-2) - a1)) hw dX2_later_56 (by decide) (fun hc hw => ?_) (fun hc hw => ?_)
        · refine lv_aload_n hx hb dX2_later_61 rfl (lv_at hl 1 rfl) ?_
          refine r_ga X hS f2_14 dX2_later_62 ?_
          refine lv_iload hx hb dX2_later_65 (lv_at hl 0 rfl) ?_
          refine z_zl X hS a2_14 hw dX2_later_67 (fun hw => ?_)
          refine z_zne (tgt := 75) hx hb (hM36 14 (V35 6 ((-2) - a1))) hw dX2_later_68 (by decide) (fun hc hw => ?_) (fun hc hw => ?_)
          · refine z_iconst hx hb dX2_later_75 ?_
            exact m2_later_J76 X hM36 hS (lv_sub hl [1, 3, 4, 0] rfl) r2 r3 (hM36 6 ((-2) - a1)) (⟨by decide, by decide⟩) hw
          · refine z_iconst hx hb dX2_later_71 ?_
            refine lv_goto (tgt := 76) hx hb dX2_later_72 (by decide) ?_
            exact m2_later_J76 X hM36 hS (lv_sub hl [1, 3, 4, 0] rfl) r2 r3 (hM36 6 ((-2) - a1)) (⟨by decide, by decide⟩) hw
        · refine z_iconst hx hb dX2_later_59 ?_
          exact z_ri X hS hM36 (⟨by decide, by decide⟩) ⟨rfl, hw⟩ dX2_later_60
      · refine lv_aload_n hx hb dX2_later_37 rfl (lv_at hl 0 rfl) ?_
        refine z_iconst hx hb dX2_later_38 ?_
        refine z_callI X hS (m2_fails (⟨by decide, by decide⟩) hM36 hw) gv2_257 hy2_fails rfl (by omega) (by decide) (sbs_sub rfl) hl.1 (Nat.le_of_ble_eq_true rfl) dX2_later_39 rfl (fun x40 V42 Z45 h41 hM43 hw P44 H locs c1 s1 hP hS => ?_)
        obtain ⟨rfl, hw⟩ := hw
        exact z_ri X hS hM43 h41 ⟨rfl, hw⟩ dX2_later_42
    · exact m2_later_J22 X hM30 hS (lv_sub hl [0] rfl)  hw
theorem m2_then_J45 {V : Mv} {Q : Int → Mv → Prop} {PX : Px} (X : Cx E 1 h0 P0 kc0 ks0 S0 A p l R s m args meth c cX2_then 6 (some .int) 4) (hM : inM V) (hS : HS E 1 h0 P0 kc0 ks0 (sbs []) A s.heap P (toC V) ZM H locs cells slots) (hl : lv_has ls 6 [(0, .ref h0)]) (hw : w2_then_J45  V Q) : W p l e R s m args below meth c H locs cells slots (MQx below (QT E 1 h0 true P0 kc0 ks0 (sbs []) A (QL (fun x V1 Z1 => Z1 = ZM ∧ Q x V1)) (PL PX) s) s) (F0 m 45 ls []) := by
  have hx := X.2.1
  have hb := X.2.2.1
  unfold w2_then_J45 at hw
  refine lv_aload_n hx hb dX2_then_45 rfl (lv_at hl 0 rfl) ?_
  refine z_iconst hx hb dX2_then_46 ?_
  refine z_callI X hS (m2_fails (⟨by decide, by decide⟩) hM hw) gv2_257 hy2_fails rfl (by omega) (by decide) (sbs_sub rfl) hl.1 (Nat.le_of_ble_eq_true rfl) dX2_then_47 rfl (fun x1 V3 Z6 h2 hM4 hw P5 H locs c1 s1 hP hS => ?_)
  obtain ⟨rfl, hw⟩ := hw
  exact z_ri X hS hM4 h2 ⟨rfl, hw⟩ dX2_then_50
theorem m2_then_J109 {a3 : Int} {b1 : Int} {b2 : Int} {b3 : Int} {b4 : Int} {V : Mv} {Q : Int → Mv → Prop} {PX : Px} (X : Cx E 1 h0 P0 kc0 ks0 S0 A p l R s m args meth c cX2_then 6 (some .int) 4) (hM : inM V) (hS : HS E 1 h0 P0 kc0 ks0 (sbs []) A s.heap P (toC V) ZM H locs cells slots) (hl : lv_has ls 6 [(3, .int (I3 a3))]) (r3 : inR a3) (sr1 : inR b1) (sr2 : inR b2) (sr3 : inR b3) (sr4 : inR b4) (hw : w2_then_J109 a3 b1 b2 b3 b4 V Q) : W p l e R s m args below meth c H locs cells slots (MQx below (QT E 1 h0 true P0 kc0 ks0 (sbs []) A (QL (fun x V1 Z1 => Z1 = ZM ∧ Q x V1)) (PL PX) s) s) (F0 m 109 ls [.int (I3 b4), .int (I3 b3), .int (I3 b2), .int (I3 b1), .ref h0]) := by
  have hx := X.2.1
  have hb := X.2.2.1
  unfold w2_then_J109 at hw
  refine lv_iload_n hx hb dX2_then_109 rfl (lv_at hl 0 rfl) ?_
  refine z_callI X hS (m2_then_2 sr1 sr2 sr3 sr4 r3 hM hw) gv2_220 hy2_then_2 rfl (by omega) (by decide) (sbs_sub rfl) hl.1 (Nat.le_of_ble_eq_true rfl) dX2_then_110 rfl (fun x7 V9 Z12 h8 hM10 hw P11 H locs c1 s1 hP hS => ?_)
  obtain ⟨rfl, hw⟩ := hw
  refine z_vo2 X hS hw gs2_155 (by omega) hl.1 (Nat.le_of_ble_eq_true rfl) dX2_then_113 (fun h13 hw => ?_)
  exact z_ri X hS hM10 h13 ⟨rfl, hw⟩ dX2_then_116
theorem m2_then_J98 {a2 : Int} {a3 : Int} {a5 : Int} {b1 : Int} {b2 : Int} {V : Mv} {Q : Int → Mv → Prop} {PX : Px} (X : Cx E 1 h0 P0 kc0 ks0 S0 A p l R s m args meth c cX2_then 6 (some .int) 4) (hM : inM V) (hS : HS E 1 h0 P0 kc0 ks0 (sbs []) A s.heap P (toC V) ZM H locs cells slots) (hl : lv_has ls 6 [(2, .int (I3 a2)), (3, .int (I3 a3)), (5, .int (I3 a5))]) (r2 : inR a2) (r3 : inR a3) (r5 : inR a5) (sr1 : inR b1) (sr2 : inR b2) (hw : w2_then_J98 a2 a3 a5 b1 b2 V Q) : W p l e R s m args below meth c H locs cells slots (MQx below (QT E 1 h0 true P0 kc0 ks0 (sbs []) A (QL (fun x V1 Z1 => Z1 = ZM ∧ Q x V1)) (PL PX) s) s) (F0 m 98 ls [.int (I3 b2), .int (I3 b1), .ref h0]) := by
  have hx := X.2.1
  have hb := X.2.2.1
  unfold w2_then_J98 at hw
  refine lv_iload_n hx hb dX2_then_98 rfl (lv_at hl 0 rfl) ?_
  refine lv_iload hx hb dX2_then_99 (lv_at hl 2 rfl) ?_
  refine z_zeq (tgt := 108) hx hb r5 hw dX2_then_101 (by decide) (fun hc hw => ?_) (fun hc hw => ?_)
  · refine z_iconst hx hb dX2_then_108 ?_
    exact m2_then_J109 X hM hS (lv_sub hl [1] rfl) r3 sr1 sr2 r2 (⟨by decide, by decide⟩) hw
  · refine z_iconst hx hb dX2_then_104 ?_
    refine lv_goto (tgt := 109) hx hb dX2_then_105 (by decide) ?_
    exact m2_then_J109 X hM hS (lv_sub hl [1] rfl) r3 sr1 sr2 r2 (⟨by decide, by decide⟩) hw
theorem m2_then_J81 {a1 : Int} {a2 : Int} {a3 : Int} {b0 : Int} {V : Mv} {Q : Int → Mv → Prop} {PX : Px} (X : Cx E 1 h0 P0 kc0 ks0 S0 A p l R s m args meth c cX2_then 6 (some .int) 4) (hM : inM V) (hS : HS E 1 h0 P0 kc0 ks0 (sbs []) A s.heap P (toC V) ZM H locs cells slots) (hl : lv_has ls 6 [(0, .ref h0), (1, .int (I3 a1)), (2, .int (I3 a2)), (3, .int (I3 a3))]) (r1 : inR a1) (r2 : inR a2) (r3 : inR a3) (sr0 : inR b0) (hw : w2_then_J81 a1 a2 a3 b0 V Q) : W p l e R s m args below meth c H locs cells slots (MQx below (QT E 1 h0 true P0 kc0 ks0 (sbs []) A (QL (fun x V1 Z1 => Z1 = ZM ∧ Q x V1)) (PL PX) s) s) (F0 m 81 ls [.int (I3 b0)]) := by
  have hx := X.2.1
  have hb := X.2.2.1
  unfold w2_then_J81 at hw
  refine lv_istore (lv' := [(5, .int (I3 b0)), (0, .ref h0), (1, .int (I3 a1)), (2, .int (I3 a2)), (3, .int (I3 a3))]) hx hb dX2_then_81 hl (by decide) rfl (fun ls hl => ?_)
  refine lv_aload_n hx hb dX2_then_83 rfl (lv_at hl 1 rfl) ?_
  refine z_bipush hx hb dX2_then_84 (by decide +kernel) ?_
  refine lv_iload_n hx hb dX2_then_86 rfl (lv_at hl 2 rfl) ?_
  refine z_sub hx hb hw dX2_then_87 (fun h14 hw => ?_)
  refine lv_iload_n hx hb dX2_then_88 rfl (lv_at hl 3 rfl) ?_
  refine z_iconst hx hb dX2_then_89 ?_
  refine z_ine (tgt := 97) hx hb r2 (⟨by decide, by decide⟩) hw dX2_then_90 (by decide) (fun hc hw => ?_) (fun hc hw => ?_)
  · refine z_iconst hx hb dX2_then_97 ?_
    exact m2_then_J98 X hM hS (lv_sub hl [3, 4, 0] rfl) r2 r3 sr0 h14 (⟨by decide, by decide⟩) hw
  · refine z_iconst hx hb dX2_then_93 ?_
    refine lv_goto (tgt := 98) hx hb dX2_then_94 (by decide) ?_
    exact m2_then_J98 X hM hS (lv_sub hl [3, 4, 0] rfl) r2 r3 sr0 h14 (⟨by decide, by decide⟩) hw
theorem m2_then_J80 {a1 : Int} {a2 : Int} {a3 : Int} {V : Mv} {Q : Int → Mv → Prop} {PX : Px} (X : Cx E 1 h0 P0 kc0 ks0 S0 A p l R s m args meth c cX2_then 6 (some .int) 4) (hM : inM V) (hS : HS E 1 h0 P0 kc0 ks0 (sbs []) A s.heap P (toC V) ZM H locs cells slots) (hl : lv_has ls 6 [(0, .ref h0), (1, .int (I3 a1)), (2, .int (I3 a2)), (3, .int (I3 a3))]) (r1 : inR a1) (r2 : inR a2) (r3 : inR a3) (hw : w2_then_J80 a1 a2 a3 V Q) : W p l e R s m args below meth c H locs cells slots (MQx below (QT E 1 h0 true P0 kc0 ks0 (sbs []) A (QL (fun x V1 Z1 => Z1 = ZM ∧ Q x V1)) (PL PX) s) s) (F0 m 80 ls []) := by
  have hx := X.2.1
  have hb := X.2.2.1
  unfold w2_then_J80 at hw
  refine z_iconst hx hb dX2_then_80 ?_
  exact m2_then_J81 X hM hS (lv_sub hl [0, 1, 2, 3] rfl) r1 r2 r3 (⟨by decide, by decide⟩) hw
theorem m2_then_J51 {a1 : Int} {a2 : Int} {a3 : Int} {a4 : Int} {V : Mv} {Q : Int → Mv → Prop} {PX : Px} (X : Cx E 1 h0 P0 kc0 ks0 S0 A p l R s m args meth c cX2_then 6 (some .int) 4) (hM : inM V) (hS : HS E 1 h0 P0 kc0 ks0 (sbs []) A s.heap P (toC V) ZM H locs cells slots) (hl : lv_has ls 6 [(0, .ref h0), (1, .int (I3 a1)), (2, .int (I3 a2)), (3, .int (I3 a3)), (4, .int (I3 a4))]) (r1 : inR a1) (r2 : inR a2) (r3 : inR a3) (r4 : inR a4) (hw : w2_then_J51 a1 a2 a3 a4 V Q) : W p l e R s m args below meth c H locs cells slots (MQx below (QT E 1 h0 true P0 kc0 ks0 (sbs []) A (QL (fun x V1 Z1 => Z1 = ZM ∧ Q x V1)) (PL PX) s) s) (F0 m 51 ls []) := by
  have hx := X.2.1
  have hb := X.2.2.1
  unfold w2_then_J51 at hw
  refine lv_aload_n hx hb dX2_then_51 rfl (lv_at hl 0 rfl) ?_
  refine z_bipush hx hb dX2_then_52 (by decide +kernel) ?_
  refine z_callI X hS (m2_isFull (⟨by decide, by decide⟩) hM hw) gv2_254 hy2_isFull rfl (by omega) (by decide) (sbs_sub rfl) hl.1 (Nat.le_of_ble_eq_true rfl) dX2_then_54 rfl (fun x15 V17 Z20 h16 hM18 hw P19 H locs c1 s1 hP hS => ?_)
  obtain ⟨rfl, hw⟩ := hw
  refine z_zeq (tgt := 66) hx hb h16 hw dX2_then_57 (by decide) (fun hc hw => ?_) (fun hc hw => ?_)
  · refine lv_iload hx hb dX2_then_66 (lv_at hl 4 rfl) ?_
    refine z_zeq (tgt := 80) hx hb r4 hw dX2_then_68 (by decide) (fun hc hw => ?_) (fun hc hw => ?_)
    · exact m2_then_J80 X hM18 hS (lv_sub hl [0, 1, 2, 3] rfl) r1 r2 r3 hw
    · refine lv_iload_n hx hb dX2_then_71 rfl (lv_at hl 3 rfl) ?_
      refine z_iconst hx hb dX2_then_72 ?_
      refine z_ieq (tgt := 80) hx hb r3 (⟨by decide, by decide⟩) hw dX2_then_73 (by decide) (fun hc hw => ?_) (fun hc hw => ?_)
      · exact m2_then_J80 X hM18 hS (lv_sub hl [0, 1, 2, 3] rfl) r1 r2 r3 hw
      · refine z_iconst hx hb dX2_then_76 ?_
        refine lv_goto (tgt := 81) hx hb dX2_then_77 (by decide) ?_
        exact m2_then_J81 X hM18 hS (lv_sub hl [0, 1, 2, 3] rfl) r1 r2 r3 (⟨by decide, by decide⟩) hw
  · refine lv_aload_n hx hb dX2_then_60 rfl (lv_at hl 0 rfl) ?_
    refine z_iconst hx hb dX2_then_61 ?_
    refine z_callI X hS (m2_fails (⟨by decide, by decide⟩) hM18 hw) gv2_257 hy2_fails rfl (by omega) (by decide) (sbs_sub rfl) hl.1 (Nat.le_of_ble_eq_true rfl) dX2_then_62 rfl (fun x21 V23 Z26 h22 hM24 hw P25 H locs c1 s1 hP hS => ?_)
    obtain ⟨rfl, hw⟩ := hw
    exact z_ri X hS hM24 h22 ⟨rfl, hw⟩ dX2_then_65
theorem m2_then_J27 {a1 : Int} {a2 : Int} {a3 : Int} {a4 : Int} {V : Mv} {Q : Int → Mv → Prop} {PX : Px} (X : Cx E 1 h0 P0 kc0 ks0 S0 A p l R s m args meth c cX2_then 6 (some .int) 4) (hM : inM V) (hS : HS E 1 h0 P0 kc0 ks0 (sbs []) A s.heap P (toC V) ZM H locs cells slots) (hl : lv_has ls 6 [(0, .ref h0), (1, .int (I3 a1)), (2, .int (I3 a2)), (3, .int (I3 a3)), (4, .int (I3 a4))]) (r1 : inR a1) (r2 : inR a2) (r3 : inR a3) (r4 : inR a4) (hw : w2_then_J27 a1 a2 a3 a4 V Q) : W p l e R s m args below meth c H locs cells slots (MQx below (QT E 1 h0 true P0 kc0 ks0 (sbs []) A (QL (fun x V1 Z1 => Z1 = ZM ∧ Q x V1)) (PL PX) s) s) (F0 m 27 ls []) := by
  have hx := X.2.1
  have hb := X.2.2.1
  unfold w2_then_J27 at hw
  refine lv_iload hx hb dX2_then_27 (lv_at hl 4 rfl) ?_
  refine z_zeq (tgt := 51) hx hb r4 hw dX2_then_29 (by decide) (fun hc hw => ?_) (fun hc hw => ?_)
  · exact m2_then_J51 X hM hS (lv_sub hl [0, 1, 2, 3, 4] rfl) r1 r2 r3 r4 hw
  · refine lv_iload_n hx hb dX2_then_32 rfl (lv_at hl 3 rfl) ?_
    refine z_iconst hx hb dX2_then_33 ?_
    refine z_ieq (tgt := 51) hx hb r3 (⟨by decide, by decide⟩) hw dX2_then_34 (by decide) (fun hc hw => ?_) (fun hc hw => ?_)
    · exact m2_then_J51 X hM hS (lv_sub hl [0, 1, 2, 3, 4] rfl) r1 r2 r3 r4 hw
    · refine lv_aload_n hx hb dX2_then_37 rfl (lv_at hl 0 rfl) ?_
      refine lv_iload_n hx hb dX2_then_38 rfl (lv_at hl 3 rfl) ?_
      refine z_callI X hS (m2_isHandler r3 hM hw) gv2_266 hy2_isHandler rfl (by omega) (by decide) (sbs_sub rfl) hl.1 (Nat.le_of_ble_eq_true rfl) dX2_then_39 rfl (fun x27 V29 Z32 h28 hM30 hw P31 H locs c1 s1 hP hS => ?_)
      obtain ⟨rfl, hw⟩ := hw
      refine z_zne (tgt := 51) hx hb h28 hw dX2_then_42 (by decide) (fun hc hw => ?_) (fun hc hw => ?_)
      · exact m2_then_J51 X hM30 hS (lv_sub hl [0, 1, 2, 3, 4] rfl) r1 r2 r3 r4 hw
      · exact m2_then_J45 X hM30 hS (lv_sub hl [0] rfl)  hw
theorem m2_then {a1 : Int} {a2 : Int} {a3 : Int} {a4 : Int} {V : Mv} {Q : Int → Mv → Prop} {PX : Px} (r1 : inR a1) (r2 : inR a2) (r3 : inR a3) (r4 : inR a4) (hM : inM V) (hw : w2_then a1 a2 a3 a4 V Q) : MT l S0 E 1 h0 yX2_then cX2_then 6 (some .int) 4 true (sbs []) [.int (I3 a1), .int (I3 a2), .int (I3 a3), .int (I3 a4)] (toC V) ZM (QL (fun x V1 Z1 => Z1 = ZM ∧ Q x V1)) (PL PX) := by
  refine mt_of Gk1 (by decide) rfl (Nat.le_of_ble_eq_true rfl) ?_
  intro p e s m below meth c A P ls X hS hl
  have hl : lv_has ls 6 [(0, .ref h0), (1, .int (I3 a1)), (2, .int (I3 a2)), (3, .int (I3 a3)), (4, .int (I3 a4))] := hl
  have hx := X.2.1
  have hb := X.2.2.1
  unfold w2_then at hw
  refine lv_aload_n hx hb dX2_then_0 rfl (lv_at hl 0 rfl) ?_
  refine z_iconst hx hb dX2_then_1 ?_
  refine z_pi X hS hM f2_0 p2_0 (⟨by decide, by decide⟩) hw dX2_then_2 (fun V33 hM34 hw H locs hS => ?_)
  refine lv_aload_n hx hb dX2_then_5 rfl (lv_at hl 0 rfl) ?_
  refine lv_iload_n hx hb dX2_then_6 rfl (lv_at hl 1 rfl) ?_
  refine z_iconst hx hb dX2_then_7 ?_
  refine z_callI X hS (m2_isKind r1 (⟨by decide, by decide⟩) hM34 hw) gv2_179 hy2_isKind rfl (by omega) (by decide) (sbs_sub rfl) hl.1 (Nat.le_of_ble_eq_true rfl) dX2_then_8 rfl (fun x35 V37 Z40 h36 hM38 hw P39 H locs c1 s1 hP hS => ?_)
  obtain ⟨rfl, hw⟩ := hw
  refine z_zeq (tgt := 45) hx hb h36 hw dX2_then_11 (by decide) (fun hc hw => ?_) (fun hc hw => ?_)
  · exact m2_then_J45 X hM38 hS (lv_sub hl [0] rfl)  hw
  · refine lv_iload_n hx hb dX2_then_14 rfl (lv_at hl 2 rfl) ?_
    refine z_iconst hx hb dX2_then_15 ?_
    refine z_ieq (tgt := 27) hx hb r2 (⟨by decide, by decide⟩) hw dX2_then_16 (by decide) (fun hc hw => ?_) (fun hc hw => ?_)
    · exact m2_then_J27 X hM38 hS (lv_sub hl [0, 1, 2, 3, 4] rfl) r1 r2 r3 r4 hw
    · refine lv_aload_n hx hb dX2_then_19 rfl (lv_at hl 0 rfl) ?_
      refine lv_iload_n hx hb dX2_then_20 rfl (lv_at hl 2 rfl) ?_
      refine z_callI X hS (m2_isHandler r2 hM38 hw) gv2_266 hy2_isHandler rfl (by omega) (by decide) (sbs_sub rfl) hl.1 (Nat.le_of_ble_eq_true rfl) dX2_then_21 rfl (fun x41 V43 Z46 h42 hM44 hw P45 H locs c1 s1 hP hS => ?_)
      obtain ⟨rfl, hw⟩ := hw
      refine z_zeq (tgt := 45) hx hb h42 hw dX2_then_24 (by decide) (fun hc hw => ?_) (fun hc hw => ?_)
      · exact m2_then_J45 X hM44 hS (lv_sub hl [0] rfl)  hw
      · exact m2_then_J27 X hM44 hS (lv_sub hl [0, 1, 2, 3, 4] rfl) r1 r2 r3 r4 hw
end WALK
