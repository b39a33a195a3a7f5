set_option maxRecDepth 100000
theorem dX2_handle_0 : decode cX2_handle 0 = .ok (.aload_n 0, 1) := by decide +kernel
theorem dX2_handle_1 : decode cX2_handle 1 = .ok (.iload_n 1, 1) := by decide +kernel
theorem dX2_handle_2 : decode cX2_handle 2 = .ok (.iload_n 2, 1) := by decide +kernel
theorem dX2_handle_3 : decode cX2_handle 3 = .ok (.invokevirtual 190, 3) := by decide +kernel
theorem dX2_handle_6 : decode cX2_handle 6 = .ok (.aload_n 0, 1) := by decide +kernel
theorem dX2_handle_7 : decode cX2_handle 7 = .ok (.aload_n 0, 1) := by decide +kernel
theorem dX2_handle_8 : decode cX2_handle 8 = .ok (.getfield 86, 3) := by decide +kernel
theorem dX2_handle_11 : decode cX2_handle 11 = .ok (.iload_n 1, 1) := by decide +kernel
theorem dX2_handle_12 : decode cX2_handle 12 = .ok (.iaload, 1) := by decide +kernel
theorem dX2_handle_13 : decode cX2_handle 13 = .ok (.iconst 2, 1) := by decide +kernel
theorem dX2_handle_14 : decode cX2_handle 14 = .ok (.if_icmp .eq 13, 3) := by decide +kernel
theorem dX2_handle_17 : decode cX2_handle 17 = .ok (.aload_n 0, 1) := by decide +kernel
theorem dX2_handle_18 : decode cX2_handle 18 = .ok (.getfield 86, 3) := by decide +kernel
theorem dX2_handle_21 : decode cX2_handle 21 = .ok (.iload_n 1, 1) := by decide +kernel
theorem dX2_handle_22 : decode cX2_handle 22 = .ok (.iaload, 1) := by decide +kernel
theorem dX2_handle_23 : decode cX2_handle 23 = .ok (.iconst 3, 1) := by decide +kernel
theorem dX2_handle_24 : decode cX2_handle 24 = .ok (.if_icmp .ne 7, 3) := by decide +kernel
theorem dX2_handle_27 : decode cX2_handle 27 = .ok (.iconst 1, 1) := by decide +kernel
theorem dX2_handle_28 : decode cX2_handle 28 = .ok (.goto 4, 3) := by decide +kernel
theorem dX2_handle_31 : decode cX2_handle 31 = .ok (.iconst 0, 1) := by decide +kernel
theorem dX2_handle_32 : decode cX2_handle 32 = .ok (.putfield 193, 3) := by decide +kernel
theorem dX2_handle_35 : decode cX2_handle 35 = .ok (.aload_n 0, 1) := by decide +kernel
theorem dX2_handle_36 : decode cX2_handle 36 = .ok (.getfield 86, 3) := by decide +kernel
theorem dX2_handle_39 : decode cX2_handle 39 = .ok (.iload_n 1, 1) := by decide +kernel
theorem dX2_handle_40 : decode cX2_handle 40 = .ok (.iaload, 1) := by decide +kernel
theorem dX2_handle_41 : decode cX2_handle 41 = .ok (.tableswitch 40 0 3 #[31, 38, 31, 38], 31) := by decide +kernel
theorem dX2_handle_72 : decode cX2_handle 72 = .ok (.aload_n 0, 1) := by decide +kernel
theorem dX2_handle_73 : decode cX2_handle 73 = .ok (.getfield 89, 3) := by decide +kernel
theorem dX2_handle_76 : decode cX2_handle 76 = .ok (.iload_n 1, 1) := by decide +kernel
theorem dX2_handle_77 : decode cX2_handle 77 = .ok (.iaload, 1) := by decide +kernel
theorem dX2_handle_78 : decode cX2_handle 78 = .ok (.ireturn, 1) := by decide +kernel
theorem dX2_handle_79 : decode cX2_handle 79 = .ok (.iload_n 2, 1) := by decide +kernel
theorem dX2_handle_80 : decode cX2_handle 80 = .ok (.ireturn, 1) := by decide +kernel
theorem dX2_handle_81 : decode cX2_handle 81 = .ok (.aload_n 0, 1) := by decide +kernel
theorem dX2_handle_82 : decode cX2_handle 82 = .ok (.getfield 22, 3) := by decide +kernel
theorem dX2_handle_85 : decode cX2_handle 85 = .ok (.bipush (-2), 2) := by decide +kernel
theorem dX2_handle_87 : decode cX2_handle 87 = .ok (.aload_n 0, 1) := by decide +kernel
theorem dX2_handle_88 : decode cX2_handle 88 = .ok (.getfield 89, 3) := by decide +kernel
theorem dX2_handle_91 : decode cX2_handle 91 = .ok (.iload_n 1, 1) := by decide +kernel
theorem dX2_handle_92 : decode cX2_handle 92 = .ok (.iaload, 1) := by decide +kernel
theorem dX2_handle_93 : decode cX2_handle 93 = .ok (.isub, 1) := by decide +kernel
theorem dX2_handle_94 : decode cX2_handle 94 = .ok (.iaload, 1) := by decide +kernel
theorem dX2_handle_95 : decode cX2_handle 95 = .ok (.istore_n 3, 1) := by decide +kernel
theorem dX2_handle_96 : decode cX2_handle 96 = .ok (.aload_n 0, 1) := by decide +kernel
theorem dX2_handle_97 : decode cX2_handle 97 = .ok (.getfield 86, 3) := by decide +kernel
theorem dX2_handle_100 : decode cX2_handle 100 = .ok (.iload_n 1, 1) := by decide +kernel
theorem dX2_handle_101 : decode cX2_handle 101 = .ok (.iaload, 1) := by decide +kernel
theorem dX2_handle_102 : decode cX2_handle 102 = .ok (.iconst 4, 1) := by decide +kernel
theorem dX2_handle_103 : decode cX2_handle 103 = .ok (.if_icmp .ne 12, 3) := by decide +kernel
theorem dX2_handle_106 : decode cX2_handle 106 = .ok (.aload_n 0, 1) := by decide +kernel
theorem dX2_handle_107 : decode cX2_handle 107 = .ok (.iload_n 3, 1) := by decide +kernel
theorem dX2_handle_108 : decode cX2_handle 108 = .ok (.iload_n 2, 1) := by decide +kernel
theorem dX2_handle_109 : decode cX2_handle 109 = .ok (.invokevirtual 183, 3) := by decide +kernel
theorem dX2_handle_112 : decode cX2_handle 112 = .ok (.goto 9, 3) := by decide +kernel
theorem dX2_handle_115 : decode cX2_handle 115 = .ok (.aload_n 0, 1) := by decide +kernel
theorem dX2_handle_116 : decode cX2_handle 116 = .ok (.iload_n 3, 1) := by decide +kernel
theorem dX2_handle_117 : decode cX2_handle 117 = .ok (.iload_n 2, 1) := by decide +kernel
theorem dX2_handle_118 : decode cX2_handle 118 = .ok (.invokevirtual 197, 3) := by decide +kernel
theorem dX2_handle_121 : decode cX2_handle 121 = .ok (.aload_n 0, 1) := by decide +kernel
theorem dX2_handle_122 : decode cX2_handle 122 = .ok (.iconst 0, 1) := by decide +kernel
theorem dX2_handle_123 : decode cX2_handle 123 = .ok (.putfield 193, 3) := by decide +kernel
theorem dX2_handle_126 : decode cX2_handle 126 = .ok (.iconst (-1), 1) := by decide +kernel
theorem dX2_handle_127 : decode cX2_handle 127 = .ok (.ireturn, 1) := by decide +kernel
theorem dX2_array_0 : decode cX2_array 0 = .ok (.aload_n 0, 1) := by decide +kernel
theorem dX2_array_1 : decode cX2_array 1 = .ok (.iload_n 2, 1) := by decide +kernel
theorem dX2_array_2 : decode cX2_array 2 = .ok (.invokevirtual 148, 3) := by decide +kernel
theorem dX2_array_5 : decode cX2_array 5 = .ok (.istore_n 3, 1) := by decide +kernel
theorem dX2_array_6 : decode cX2_array 6 = .ok (.aload_n 0, 1) := by decide +kernel
theorem dX2_array_7 : decode cX2_array 7 = .ok (.getfield 29, 3) := by decide +kernel
theorem dX2_array_10 : decode cX2_array 10 = .ok (.iload_n 3, 1) := by decide +kernel
theorem dX2_array_11 : decode cX2_array 11 = .ok (.aload_n 0, 1) := by decide +kernel
theorem dX2_array_12 : decode cX2_array 12 = .ok (.getfield 110, 3) := by decide +kernel
theorem dX2_array_15 : decode cX2_array 15 = .ok (.iload_n 1, 1) := by decide +kernel
theorem dX2_array_16 : decode cX2_array 16 = .ok (.iaload, 1) := by decide +kernel
theorem dX2_array_17 : decode cX2_array 17 = .ok (.iastore, 1) := by decide +kernel
theorem dX2_array_18 : decode cX2_array 18 = .ok (.aload_n 0, 1) := by decide +kernel
theorem dX2_array_19 : decode cX2_array 19 = .ok (.getfield 32, 3) := by decide +kernel
theorem dX2_array_22 : decode cX2_array 22 = .ok (.iload_n 3, 1) := by decide +kernel
theorem dX2_array_23 : decode cX2_array 23 = .ok (.aload_n 0, 1) := by decide +kernel
theorem dX2_array_24 : decode cX2_array 24 = .ok (.getfield 113, 3) := by decide +kernel
theorem dX2_array_27 : decode cX2_array 27 = .ok (.iload_n 1, 1) := by decide +kernel
theorem dX2_array_28 : decode cX2_array 28 = .ok (.iaload, 1) := by decide +kernel
theorem dX2_array_29 : decode cX2_array 29 = .ok (.iastore, 1) := by decide +kernel
theorem dX2_array_30 : decode cX2_array 30 = .ok (.iload_n 3, 1) := by decide +kernel
theorem dX2_array_31 : decode cX2_array 31 = .ok (.invokestatic 155, 3) := by decide +kernel
theorem dX2_array_34 : decode cX2_array 34 = .ok (.ireturn, 1) := by decide +kernel
theorem dX2_finish_0 : decode cX2_finish 0 = .ok (.iload_n 2, 1) := by decide +kernel
theorem dX2_finish_1 : decode cX2_finish 1 = .ok (.ifCond .eq 31, 3) := by decide +kernel
theorem dX2_finish_4 : decode cX2_finish 4 = .ok (.aload_n 0, 1) := by decide +kernel
theorem dX2_finish_5 : decode cX2_finish 5 = .ok (.iload_n 1, 1) := by decide +kernel
theorem dX2_finish_6 : decode cX2_finish 6 = .ok (.iconst 3, 1) := by decide +kernel
theorem dX2_finish_7 : decode cX2_finish 7 = .ok (.invokevirtual 228, 3) := by decide +kernel
theorem dX2_finish_10 : decode cX2_finish 10 = .ok (.istore_n 3, 1) := by decide +kernel
theorem dX2_finish_11 : decode cX2_finish 11 = .ok (.aload_n 0, 1) := by decide +kernel
theorem dX2_finish_12 : decode cX2_finish 12 = .ok (.iload_n 1, 1) := by decide +kernel
theorem dX2_finish_13 : decode cX2_finish 13 = .ok (.iconst 4, 1) := by decide +kernel
theorem dX2_finish_14 : decode cX2_finish 14 = .ok (.invokevirtual 228, 3) := by decide +kernel
theorem dX2_finish_17 : decode cX2_finish 17 = .ok (.pop, 1) := by decide +kernel
theorem dX2_finish_18 : decode cX2_finish 18 = .ok (.aload_n 0, 1) := by decide +kernel
theorem dX2_finish_19 : decode cX2_finish 19 = .ok (.aload_n 0, 1) := by decide +kernel
theorem dX2_finish_20 : decode cX2_finish 20 = .ok (.getfield 119, 3) := by decide +kernel
theorem dX2_finish_23 : decode cX2_finish 23 = .ok (.iload_n 1, 1) := by decide +kernel
theorem dX2_finish_24 : decode cX2_finish 24 = .ok (.iaload, 1) := by decide +kernel
theorem dX2_finish_25 : decode cX2_finish 25 = .ok (.iload_n 3, 1) := by decide +kernel
theorem dX2_finish_26 : decode cX2_finish 26 = .ok (.invokevirtual 197, 3) := by decide +kernel
theorem dX2_finish_29 : decode cX2_finish 29 = .ok (.goto 19, 3) := by decide +kernel
theorem dX2_finish_32 : decode cX2_finish 32 = .ok (.aload_n 0, 1) := by decide +kernel
theorem dX2_finish_33 : decode cX2_finish 33 = .ok (.aload_n 0, 1) := by decide +kernel
theorem dX2_finish_34 : decode cX2_finish 34 = .ok (.getfield 119, 3) := by decide +kernel
theorem dX2_finish_37 : decode cX2_finish 37 = .ok (.iload_n 1, 1) := by decide +kernel
theorem dX2_finish_38 : decode cX2_finish 38 = .ok (.iaload, 1) := by decide +kernel
theorem dX2_finish_39 : decode cX2_finish 39 = .ok (.aload_n 0, 1) := by decide +kernel
theorem dX2_finish_40 : decode cX2_finish 40 = .ok (.iload_n 1, 1) := by decide +kernel
theorem dX2_finish_41 : decode cX2_finish 41 = .ok (.iconst 4, 1) := by decide +kernel
theorem dX2_finish_42 : decode cX2_finish 42 = .ok (.invokevirtual 228, 3) := by decide +kernel
theorem dX2_finish_45 : decode cX2_finish 45 = .ok (.invokevirtual 183, 3) := by decide +kernel
theorem dX2_finish_48 : decode cX2_finish 48 = .ok (.return_, 1) := by decide +kernel
theorem dX2_element_0 : decode cX2_element 0 = .ok (.aload_n 0, 1) := by decide +kernel
theorem dX2_element_1 : decode cX2_element 1 = .ok (.getfield 107, 3) := by decide +kernel
theorem dX2_element_4 : decode cX2_element 4 = .ok (.iload_n 2, 1) := by decide +kernel
theorem dX2_element_5 : decode cX2_element 5 = .ok (.baload, 1) := by decide +kernel
theorem dX2_element_6 : decode cX2_element 6 = .ok (.ifCond .eq 4, 3) := by decide +kernel
theorem dX2_element_9 : decode cX2_element 9 = .ok (.return_, 1) := by decide +kernel
theorem dX2_element_10 : decode cX2_element 10 = .ok (.aload_n 0, 1) := by decide +kernel
theorem dX2_element_11 : decode cX2_element 11 = .ok (.getfield 107, 3) := by decide +kernel
theorem dX2_element_14 : decode cX2_element 14 = .ok (.iload_n 2, 1) := by decide +kernel
theorem dX2_element_15 : decode cX2_element 15 = .ok (.iconst 1, 1) := by decide +kernel
theorem dX2_element_16 : decode cX2_element 16 = .ok (.bastore, 1) := by decide +kernel
theorem dX2_element_17 : decode cX2_element 17 = .ok (.aload_n 0, 1) := by decide +kernel
theorem dX2_element_18 : decode cX2_element 18 = .ok (.getfield 104, 3) := by decide +kernel
theorem dX2_element_21 : decode cX2_element 21 = .ok (.iload_n 2, 1) := by decide +kernel
theorem dX2_element_22 : decode cX2_element 22 = .ok (.iaload, 1) := by decide +kernel
theorem dX2_element_23 : decode cX2_element 23 = .ok (.istore 4, 2) := by decide +kernel
theorem dX2_element_25 : decode cX2_element 25 = .ok (.aload_n 0, 1) := by decide +kernel
theorem dX2_element_26 : decode cX2_element 26 = .ok (.getfield 101, 3) := by decide +kernel
theorem dX2_element_29 : decode cX2_element 29 = .ok (.iload_n 2, 1) := by decide +kernel
theorem dX2_element_30 : decode cX2_element 30 = .ok (.iload_n 3, 1) := by decide +kernel
theorem dX2_element_31 : decode cX2_element 31 = .ok (.iastore, 1) := by decide +kernel
theorem dX2_element_32 : decode cX2_element 32 = .ok (.iload_n 1, 1) := by decide +kernel
theorem dX2_element_33 : decode cX2_element 33 = .ok (.iconst 5, 1) := by decide +kernel
theorem dX2_element_34 : decode cX2_element 34 = .ok (.if_icmp .eq 9, 3) := by decide +kernel
theorem dX2_element_37 : decode cX2_element 37 = .ok (.iload_n 1, 1) := by decide +kernel
theorem dX2_element_38 : decode cX2_element 38 = .ok (.bipush 6, 2) := by decide +kernel
theorem dX2_element_40 : decode cX2_element 40 = .ok (.if_icmp .ne 46, 3) := by decide +kernel
theorem dX2_element_43 : decode cX2_element 43 = .ok (.aload_n 0, 1) := by decide +kernel
theorem dX2_element_44 : decode cX2_element 44 = .ok (.iconst 5, 1) := by decide +kernel
theorem dX2_element_45 : decode cX2_element 45 = .ok (.invokevirtual 148, 3) := by decide +kernel
theorem dX2_element_48 : decode cX2_element 48 = .ok (.istore 5, 2) := by decide +kernel
theorem dX2_element_50 : decode cX2_element 50 = .ok (.aload_n 0, 1) := by decide +kernel
theorem dX2_element_51 : decode cX2_element 51 = .ok (.getfield 29, 3) := by decide +kernel
theorem dX2_element_54 : decode cX2_element 54 = .ok (.iload 5, 2) := by decide +kernel
theorem dX2_element_56 : decode cX2_element 56 = .ok (.iload_n 1, 1) := by decide +kernel
theorem dX2_element_57 : decode cX2_element 57 = .ok (.iconst 5, 1) := by decide +kernel
theorem dX2_element_58 : decode cX2_element 58 = .ok (.if_icmp .ne 7, 3) := by decide +kernel
theorem dX2_element_61 : decode cX2_element 61 = .ok (.iconst 1, 1) := by decide +kernel
theorem dX2_element_62 : decode cX2_element 62 = .ok (.goto 4, 3) := by decide +kernel
theorem dX2_element_65 : decode cX2_element 65 = .ok (.iconst 0, 1) := by decide +kernel
theorem dX2_element_66 : decode cX2_element 66 = .ok (.iastore, 1) := by decide +kernel
theorem dX2_element_67 : decode cX2_element 67 = .ok (.aload_n 0, 1) := by decide +kernel
theorem dX2_element_68 : decode cX2_element 68 = .ok (.getfield 32, 3) := by decide +kernel
theorem dX2_element_71 : decode cX2_element 71 = .ok (.iload 5, 2) := by decide +kernel
theorem dX2_element_73 : decode cX2_element 73 = .ok (.iload_n 3, 1) := by decide +kernel
theorem dX2_element_74 : decode cX2_element 74 = .ok (.iastore, 1) := by decide +kernel
theorem dX2_element_75 : decode cX2_element 75 = .ok (.aload_n 0, 1) := by decide +kernel
theorem dX2_element_76 : decode cX2_element 76 = .ok (.getfield 101, 3) := by decide +kernel
theorem dX2_element_79 : decode cX2_element 79 = .ok (.iload_n 2, 1) := by decide +kernel
theorem dX2_element_80 : decode cX2_element 80 = .ok (.iload 5, 2) := by decide +kernel
theorem dX2_element_82 : decode cX2_element 82 = .ok (.invokestatic 155, 3) := by decide +kernel
theorem dX2_element_85 : decode cX2_element 85 = .ok (.iastore, 1) := by decide +kernel
theorem dX2_element_86 : decode cX2_element 86 = .ok (.aload_n 0, 1) := by decide +kernel
theorem dX2_element_87 : decode cX2_element 87 = .ok (.getfield 116, 3) := by decide +kernel
theorem dX2_element_90 : decode cX2_element 90 = .ok (.iload 4, 2) := by decide +kernel
theorem dX2_element_92 : decode cX2_element 92 = .ok (.dup2, 1) := by decide +kernel
theorem dX2_element_93 : decode cX2_element 93 = .ok (.iaload, 1) := by decide +kernel
theorem dX2_element_94 : decode cX2_element 94 = .ok (.iconst 1, 1) := by decide +kernel
theorem dX2_element_95 : decode cX2_element 95 = .ok (.isub, 1) := by decide +kernel
theorem dX2_element_96 : decode cX2_element 96 = .ok (.iastore, 1) := by decide +kernel
theorem dX2_element_97 : decode cX2_element 97 = .ok (.aload_n 0, 1) := by decide +kernel
theorem dX2_element_98 : decode cX2_element 98 = .ok (.getfield 116, 3) := by decide +kernel
theorem dX2_element_101 : decode cX2_element 101 = .ok (.iload 4, 2) := by decide +kernel
theorem dX2_element_103 : decode cX2_element 103 = .ok (.iaload, 1) := by decide +kernel
theorem dX2_element_104 : decode cX2_element 104 = .ok (.ifCond .ne 20, 3) := by decide +kernel
theorem dX2_element_107 : decode cX2_element 107 = .ok (.aload_n 0, 1) := by decide +kernel
theorem dX2_element_108 : decode cX2_element 108 = .ok (.iload 4, 2) := by decide +kernel
theorem dX2_element_110 : decode cX2_element 110 = .ok (.iload_n 1, 1) := by decide +kernel
theorem dX2_element_111 : decode cX2_element 111 = .ok (.bipush 7, 2) := by decide +kernel
theorem dX2_element_113 : decode cX2_element 113 = .ok (.if_icmp .ne 7, 3) := by decide +kernel
theorem dX2_element_116 : decode cX2_element 116 = .ok (.iconst 1, 1) := by decide +kernel
theorem dX2_element_117 : decode cX2_element 117 = .ok (.goto 4, 3) := by decide +kernel
theorem dX2_element_120 : decode cX2_element 120 = .ok (.iconst 0, 1) := by decide +kernel
theorem dX2_element_121 : decode cX2_element 121 = .ok (.invokevirtual 224, 3) := by decide +kernel
theorem dX2_element_124 : decode cX2_element 124 = .ok (.return_, 1) := by decide +kernel
theorem dX2_last_0 : decode cX2_last 0 = .ok (.aload_n 0, 1) := by decide +kernel
theorem dX2_last_1 : decode cX2_last 1 = .ok (.iload_n 2, 1) := by decide +kernel
theorem dX2_last_2 : decode cX2_last 2 = .ok (.iconst (-1), 1) := by decide +kernel
theorem dX2_last_3 : decode cX2_last 3 = .ok (.invokevirtual 200, 3) := by decide +kernel
theorem dX2_last_6 : decode cX2_last 6 = .ok (.istore 4, 2) := by decide +kernel
theorem dX2_last_8 : decode cX2_last 8 = .ok (.aload_n 0, 1) := by decide +kernel
theorem dX2_last_9 : decode cX2_last 9 = .ok (.getfield 193, 3) := by decide +kernel
theorem dX2_last_12 : decode cX2_last 12 = .ok (.ifCond .eq 6, 3) := by decide +kernel
theorem dX2_last_15 : decode cX2_last 15 = .ok (.iload 4, 2) := by decide +kernel
theorem dX2_last_17 : decode cX2_last 17 = .ok (.ireturn, 1) := by decide +kernel
theorem dX2_last_18 : decode cX2_last 18 = .ok (.aload_n 0, 1) := by decide +kernel
theorem dX2_last_19 : decode cX2_last 19 = .ok (.iload 4, 2) := by decide +kernel
theorem dX2_last_21 : decode cX2_last 21 = .ok (.invokevirtual 214, 3) := by decide +kernel
theorem dX2_last_24 : decode cX2_last 24 = .ok (.istore 5, 2) := by decide +kernel
theorem dX2_last_26 : decode cX2_last 26 = .ok (.aload_n 0, 1) := by decide +kernel
theorem dX2_last_27 : decode cX2_last 27 = .ok (.getfield 217, 3) := by decide +kernel
theorem dX2_last_30 : decode cX2_last 30 = .ok (.istore 6, 2) := by decide +kernel
theorem dX2_last_32 : decode cX2_last 32 = .ok (.aload_n 0, 1) := by decide +kernel
theorem dX2_last_33 : decode cX2_last 33 = .ok (.dup, 1) := by decide +kernel
theorem dX2_last_34 : decode cX2_last 34 = .ok (.getfield 217, 3) := by decide +kernel
theorem dX2_last_37 : decode cX2_last 37 = .ok (.iconst 1, 1) := by decide +kernel
theorem dX2_last_38 : decode cX2_last 38 = .ok (.iadd, 1) := by decide +kernel
theorem dX2_last_39 : decode cX2_last 39 = .ok (.putfield 217, 3) := by decide +kernel
theorem dX2_last_42 : decode cX2_last 42 = .ok (.aload_n 0, 1) := by decide +kernel
theorem dX2_last_43 : decode cX2_last 43 = .ok (.getfield 101, 3) := by decide +kernel
theorem dX2_last_46 : decode cX2_last 46 = .ok (.iload 6, 2) := by decide +kernel
theorem dX2_last_48 : decode cX2_last 48 = .ok (.iload_n 3, 1) := by decide +kernel
theorem dX2_last_49 : decode cX2_last 49 = .ok (.iastore, 1) := by decide +kernel
theorem dX2_last_50 : decode cX2_last 50 = .ok (.aload_n 0, 1) := by decide +kernel
theorem dX2_last_51 : decode cX2_last 51 = .ok (.iload 5, 2) := by decide +kernel
theorem dX2_last_53 : decode cX2_last 53 = .ok (.iload_n 1, 1) := by decide +kernel
theorem dX2_last_54 : decode cX2_last 54 = .ok (.bipush 8, 2) := by decide +kernel
theorem dX2_last_56 : decode cX2_last 56 = .ok (.if_icmp .ne 8, 3) := by decide +kernel
theorem dX2_last_59 : decode cX2_last 59 = .ok (.bipush 10, 2) := by decide +kernel
theorem dX2_last_61 : decode cX2_last 61 = .ok (.goto 5, 3) := by decide +kernel
theorem dX2_last_64 : decode cX2_last 64 = .ok (.bipush 11, 2) := by decide +kernel
theorem dX2_last_66 : decode cX2_last 66 = .ok (.iload 6, 2) := by decide +kernel
theorem dX2_last_68 : decode cX2_last 68 = .ok (.iconst 0, 1) := by decide +kernel
theorem dX2_last_69 : decode cX2_last 69 = .ok (.iconst 0, 1) := by decide +kernel
theorem dX2_last_70 : decode cX2_last 70 = .ok (.invokevirtual 220, 3) := by decide +kernel
theorem dX2_last_73 : decode cX2_last 73 = .ok (.invokestatic 155, 3) := by decide +kernel
theorem dX2_last_76 : decode cX2_last 76 = .ok (.istore 7, 2) := by decide +kernel
theorem dX2_last_78 : decode cX2_last 78 = .ok (.aload_n 0, 1) := by decide +kernel
theorem dX2_last_79 : decode cX2_last 79 = .ok (.iconst 0, 1) := by decide +kernel
theorem dX2_last_80 : decode cX2_last 80 = .ok (.putfield 193, 3) := by decide +kernel
theorem dX2_last_83 : decode cX2_last 83 = .ok (.iload 7, 2) := by decide +kernel
theorem dX2_last_85 : decode cX2_last 85 = .ok (.ireturn, 1) := by decide +kernel
theorem dX2_goOn_0 : decode cX2_goOn 0 = .ok (.aload_n 0, 1) := by decide +kernel
theorem dX2_goOn_1 : decode cX2_goOn 1 = .ok (.getfield 128, 3) := by decide +kernel
theorem dX2_goOn_4 : decode cX2_goOn 4 = .ok (.iload_n 1, 1) := by decide +kernel
theorem dX2_goOn_5 : decode cX2_goOn 5 = .ok (.iaload, 1) := by decide +kernel
theorem dX2_goOn_6 : decode cX2_goOn 6 = .ok (.aload_n 0, 1) := by decide +kernel
theorem dX2_goOn_7 : decode cX2_goOn 7 = .ok (.getfield 113, 3) := by decide +kernel
theorem dX2_goOn_10 : decode cX2_goOn 10 = .ok (.iload_n 1, 1) := by decide +kernel
theorem dX2_goOn_11 : decode cX2_goOn 11 = .ok (.iaload, 1) := by decide +kernel
theorem dX2_goOn_12 : decode cX2_goOn 12 = .ok (.if_icmp .ne 20, 3) := by decide +kernel
theorem dX2_goOn_15 : decode cX2_goOn 15 = .ok (.aload_n 0, 1) := by decide +kernel
theorem dX2_goOn_16 : decode cX2_goOn 16 = .ok (.aload_n 0, 1) := by decide +kernel
theorem dX2_goOn_17 : decode cX2_goOn 17 = .ok (.getfield 119, 3) := by decide +kernel
theorem dX2_goOn_20 : decode cX2_goOn 20 = .ok (.iload_n 1, 1) := by decide +kernel
theorem dX2_goOn_21 : decode cX2_goOn 21 = .ok (.iaload, 1) := by decide +kernel
theorem dX2_goOn_22 : decode cX2_goOn 22 = .ok (.aload_n 0, 1) := by decide +kernel
theorem dX2_goOn_23 : decode cX2_goOn 23 = .ok (.getfield 122, 3) := by decide +kernel
theorem dX2_goOn_26 : decode cX2_goOn 26 = .ok (.iload_n 1, 1) := by decide +kernel
theorem dX2_goOn_27 : decode cX2_goOn 27 = .ok (.iaload, 1) := by decide +kernel
theorem dX2_goOn_28 : decode cX2_goOn 28 = .ok (.invokevirtual 183, 3) := by decide +kernel
theorem dX2_goOn_31 : decode cX2_goOn 31 = .ok (.return_, 1) := by decide +kernel
theorem dX2_goOn_32 : decode cX2_goOn 32 = .ok (.aload_n 0, 1) := by decide +kernel
theorem dX2_goOn_33 : decode cX2_goOn 33 = .ok (.getfield 101, 3) := by decide +kernel
theorem dX2_goOn_36 : decode cX2_goOn 36 = .ok (.aload_n 0, 1) := by decide +kernel
theorem dX2_goOn_37 : decode cX2_goOn 37 = .ok (.getfield 110, 3) := by decide +kernel
theorem dX2_goOn_40 : decode cX2_goOn 40 = .ok (.iload_n 1, 1) := by decide +kernel
theorem dX2_goOn_41 : decode cX2_goOn 41 = .ok (.iaload, 1) := by decide +kernel
theorem dX2_goOn_42 : decode cX2_goOn 42 = .ok (.aload_n 0, 1) := by decide +kernel
theorem dX2_goOn_43 : decode cX2_goOn 43 = .ok (.getfield 128, 3) := by decide +kernel
theorem dX2_goOn_46 : decode cX2_goOn 46 = .ok (.iload_n 1, 1) := by decide +kernel
theorem dX2_goOn_47 : decode cX2_goOn 47 = .ok (.iaload, 1) := by decide +kernel
theorem dX2_goOn_48 : decode cX2_goOn 48 = .ok (.iadd, 1) := by decide +kernel
theorem dX2_goOn_49 : decode cX2_goOn 49 = .ok (.iaload, 1) := by decide +kernel
theorem dX2_goOn_50 : decode cX2_goOn 50 = .ok (.istore_n 2, 1) := by decide +kernel
theorem dX2_goOn_51 : decode cX2_goOn 51 = .ok (.aload_n 0, 1) := by decide +kernel
theorem dX2_goOn_52 : decode cX2_goOn 52 = .ok (.getfield 128, 3) := by decide +kernel
theorem dX2_goOn_55 : decode cX2_goOn 55 = .ok (.iload_n 1, 1) := by decide +kernel
theorem dX2_goOn_56 : decode cX2_goOn 56 = .ok (.dup2, 1) := by decide +kernel
theorem dX2_goOn_57 : decode cX2_goOn 57 = .ok (.iaload, 1) := by decide +kernel
theorem dX2_goOn_58 : decode cX2_goOn 58 = .ok (.iconst 1, 1) := by decide +kernel
theorem dX2_goOn_59 : decode cX2_goOn 59 = .ok (.iadd, 1) := by decide +kernel
theorem dX2_goOn_60 : decode cX2_goOn 60 = .ok (.iastore, 1) := by decide +kernel
theorem dX2_goOn_61 : decode cX2_goOn 61 = .ok (.aload_n 0, 1) := by decide +kernel
theorem dX2_goOn_62 : decode cX2_goOn 62 = .ok (.aload_n 0, 1) := by decide +kernel
theorem dX2_goOn_63 : decode cX2_goOn 63 = .ok (.iload_n 2, 1) := by decide +kernel
theorem dX2_goOn_64 : decode cX2_goOn 64 = .ok (.invokevirtual 214, 3) := by decide +kernel
theorem dX2_goOn_67 : decode cX2_goOn 67 = .ok (.bipush 12, 2) := by decide +kernel
theorem dX2_goOn_69 : decode cX2_goOn 69 = .ok (.iload_n 1, 1) := by decide +kernel
theorem dX2_goOn_70 : decode cX2_goOn 70 = .ok (.bipush 13, 2) := by decide +kernel
theorem dX2_goOn_72 : decode cX2_goOn 72 = .ok (.iload_n 1, 1) := by decide +kernel
theorem dX2_goOn_73 : decode cX2_goOn 73 = .ok (.iconst (-1), 1) := by decide +kernel
theorem dX2_goOn_74 : decode cX2_goOn 74 = .ok (.invokevirtual 175, 3) := by decide +kernel
theorem dX2_goOn_77 : decode cX2_goOn 77 = .ok (.return_, 1) := by decide +kernel
theorem dX2_resume_0 : decode cX2_resume 0 = .ok (.aload_n 0, 1) := by decide +kernel
theorem dX2_resume_1 : decode cX2_resume 1 = .ok (.getfield 125, 3) := by decide +kernel
theorem dX2_resume_4 : decode cX2_resume 4 = .ok (.iload_n 1, 1) := by decide +kernel
theorem dX2_resume_5 : decode cX2_resume 5 = .ok (.iaload, 1) := by decide +kernel
theorem dX2_resume_6 : decode cX2_resume 6 = .ok (.ifCond .lt 39, 3) := by decide +kernel
theorem dX2_resume_9 : decode cX2_resume 9 = .ok (.aload_n 0, 1) := by decide +kernel
theorem dX2_resume_10 : decode cX2_resume 10 = .ok (.aload_n 0, 1) := by decide +kernel
theorem dX2_resume_11 : decode cX2_resume 11 = .ok (.getfield 125, 3) := by decide +kernel
theorem dX2_resume_14 : decode cX2_resume 14 = .ok (.iload_n 1, 1) := by decide +kernel
theorem dX2_resume_15 : decode cX2_resume 15 = .ok (.iaload, 1) := by decide +kernel
theorem dX2_resume_16 : decode cX2_resume 16 = .ok (.iload_n 2, 1) := by decide +kernel
theorem dX2_resume_17 : decode cX2_resume 17 = .ok (.invokevirtual 200, 3) := by decide +kernel
theorem dX2_resume_20 : decode cX2_resume 20 = .ok (.istore_n 3, 1) := by decide +kernel
theorem dX2_resume_21 : decode cX2_resume 21 = .ok (.aload_n 0, 1) := by decide +kernel
theorem dX2_resume_22 : decode cX2_resume 22 = .ok (.getfield 193, 3) := by decide +kernel
theorem dX2_resume_25 : decode cX2_resume 25 = .ok (.ifCond .eq 20, 3) := by decide +kernel
theorem dX2_resume_28 : decode cX2_resume 28 = .ok (.aload_n 0, 1) := by decide +kernel
theorem dX2_resume_29 : decode cX2_resume 29 = .ok (.iconst 0, 1) := by decide +kernel
theorem dX2_resume_30 : decode cX2_resume 30 = .ok (.putfield 193, 3) := by decide +kernel
theorem dX2_resume_33 : decode cX2_resume 33 = .ok (.aload_n 0, 1) := by decide +kernel
theorem dX2_resume_34 : decode cX2_resume 34 = .ok (.aload_n 0, 1) := by decide +kernel
theorem dX2_resume_35 : decode cX2_resume 35 = .ok (.getfield 119, 3) := by decide +kernel
theorem dX2_resume_38 : decode cX2_resume 38 = .ok (.iload_n 1, 1) := by decide +kernel
theorem dX2_resume_39 : decode cX2_resume 39 = .ok (.iaload, 1) := by decide +kernel
theorem dX2_resume_40 : decode cX2_resume 40 = .ok (.iload_n 3, 1) := by decide +kernel
theorem dX2_resume_41 : decode cX2_resume 41 = .ok (.invokevirtual 197, 3) := by decide +kernel
theorem dX2_resume_44 : decode cX2_resume 44 = .ok (.return_, 1) := by decide +kernel
theorem dX2_resume_45 : decode cX2_resume 45 = .ok (.aload_n 0, 1) := by decide +kernel
theorem dX2_resume_46 : decode cX2_resume 46 = .ok (.iload_n 1, 1) := by decide +kernel
theorem dX2_resume_47 : decode cX2_resume 47 = .ok (.invokevirtual 244, 3) := by decide +kernel
theorem dX2_resume_50 : decode cX2_resume 50 = .ok (.aload_n 0, 1) := by decide +kernel
theorem dX2_resume_51 : decode cX2_resume 51 = .ok (.iconst 0, 1) := by decide +kernel
theorem dX2_resume_52 : decode cX2_resume 52 = .ok (.putfield 193, 3) := by decide +kernel
theorem dX2_resume_55 : decode cX2_resume 55 = .ok (.return_, 1) := by decide +kernel
section WALK
variable {p : Program} {l : Launch} {e : Env} {R : Room} {s : State} {m : MethodId} {args : Array Value} {below : List Frame} {meth : Method} {c : Code} {H : Heap} {locs : List Loc} {cells slots : Nat}
variable {E : Ev} {h0 : Nat} {P0 : Le} {kc0 ks0 : Nat} {S0 : State} {A : Nat → Prop} {P : Le} {ls : Array Slot}
theorem m2_handle_J72 {a1 : Int} {V : Mv} {Q : Int → Mv → Prop} {PX : Px} (X : Cx E 1 h0 P0 kc0 ks0 S0 A p l R s m args meth c cX2_handle 4 (some .int) 4) (hM : inM V) (hS : HS E 1 h0 P0 kc0 ks0 (sbs []) A s.heap P (toC V) ZM H locs cells slots) (hl : lv_has ls 4 [(0, .ref h0), (1, .int (I3 a1))]) (r1 : inR a1) (hw : w2_handle_J72 a1 V Q) : W p l e R s m args below meth c H locs cells slots (MQx below (QT E 1 h0 true P0 kc0 ks0 (sbs []) A (QL (fun x V1 Z1 => Z1 = ZM ∧ Q x V1)) (PL PX) s) s) (F0 m 72 ls []) := by
  have hx := X.2.1
  have hb := X.2.2.1
  unfold w2_handle_J72 at hw
  refine lv_aload_n hx hb dX2_handle_72 rfl (lv_at hl 0 rfl) ?_
  refine r_ga X hS f2_32 dX2_handle_73 ?_
  refine lv_iload_n hx hb dX2_handle_76 rfl (lv_at hl 1 rfl) ?_
  refine z_il X hS a2_32 hw dX2_handle_77 (fun hw => ?_)
  exact z_ri X hS hM (hM 32 a1) ⟨rfl, hw⟩ dX2_handle_78
theorem m2_handle_J79 {a2 : Int} {V : Mv} {Q : Int → Mv → Prop} {PX : Px} (X : Cx E 1 h0 P0 kc0 ks0 S0 A p l R s m args meth c cX2_handle 4 (some .int) 4) (hM : inM V) (hS : HS E 1 h0 P0 kc0 ks0 (sbs []) A s.heap P (toC V) ZM H locs cells slots) (hl : lv_has ls 4 [(2, .int (I3 a2))]) (r2 : inR a2) (hw : w2_handle_J79 a2 V Q) : W p l e R s m args below meth c H locs cells slots (MQx below (QT E 1 h0 true P0 kc0 ks0 (sbs []) A (QL (fun x V1 Z1 => Z1 = ZM ∧ Q x V1)) (PL PX) s) s) (F0 m 79 ls []) := by
  have hx := X.2.1
  have hb := X.2.2.1
  unfold w2_handle_J79 at hw
  refine lv_iload_n hx hb dX2_handle_79 rfl (lv_at hl 0 rfl) ?_
  exact z_ri X hS hM r2 ⟨rfl, hw⟩ dX2_handle_80
theorem m2_handle_J121 {V : Mv} {Q : Int → Mv → Prop} {PX : Px} (X : Cx E 1 h0 P0 kc0 ks0 S0 A p l R s m args meth c cX2_handle 4 (some .int) 4) (hM : inM V) (hS : HS E 1 h0 P0 kc0 ks0 (sbs []) A s.heap P (toC V) ZM H locs cells slots) (hl : lv_has ls 4 [(0, .ref h0)]) (hw : w2_handle_J121  V Q) : W p l e R s m args below meth c H locs cells slots (MQx below (QT E 1 h0 true P0 kc0 ks0 (sbs []) A (QL (fun x V1 Z1 => Z1 = ZM ∧ Q x V1)) (PL PX) s) s) (F0 m 121 ls []) := by
  have hx := X.2.1
  have hb := X.2.2.1
  unfold w2_handle_J121 at hw
  refine lv_aload_n hx hb dX2_handle_121 rfl (lv_at hl 0 rfl) ?_
  refine z_iconst hx hb dX2_handle_122 ?_
  refine z_pz X hS hM f2_51 p2_51 (⟨by decide, by decide⟩) hw dX2_handle_123 (fun V1 hM2 hw H locs hS => ?_)
  refine z_iconst hx hb dX2_handle_126 ?_
  exact z_ri X hS hM2 (⟨by decide, by decide⟩) ⟨rfl, hw⟩ dX2_handle_127
theorem m2_handle_J32 {a1 : Int} {a2 : Int} {b1 : Int} {V : Mv} {Q : Int → Mv → Prop} {PX : Px} (X : Cx E 1 h0 P0 kc0 ks0 S0 A p l R s m args meth c cX2_handle 4 (some .int) 4) (hM : inM V) (hS : HS E 1 h0 P0 kc0 ks0 (sbs []) A s.heap P (toC V) ZM H locs cells slots) (hl : lv_has ls 4 [(0, .ref h0), (1, .int (I3 a1)), (2, .int (I3 a2))]) (r1 : inR a1) (r2 : inR a2) (sr1 : inR b1) (hw : w2_handle_J32 a1 a2 b1 V Q) : W p l e R s m args below meth c H locs cells slots (MQx below (QT E 1 h0 true P0 kc0 ks0 (sbs []) A (QL (fun x V1 Z1 => Z1 = ZM ∧ Q x V1)) (PL PX) s) s) (F0 m 32 ls [.int (I3 b1), .ref h0]) := by
  have hx := X.2.1
  have hb := X.2.2.1
  unfold w2_handle_J32 at hw
  refine z_pz X hS hM f2_51 p2_51 sr1 hw dX2_handle_32 (fun V3 hM4 hw H locs hS => ?_)
  refine lv_aload_n hx hb dX2_handle_35 rfl (lv_at hl 0 rfl) ?_
  refine r_ga X hS f2_31 dX2_handle_36 ?_
  refine lv_iload_n hx hb dX2_handle_39 rfl (lv_at hl 1 rfl) ?_
  refine z_il X hS a2_31 hw dX2_handle_40 (fun hw => ?_)
  refine z_case hw (fun hc hw => ?_) (fun hc0 hw => ?_)
  · refine z_tin (tgt := 72) (a := 0) hx hb (hM4 31 a1) hc dX2_handle_41 (by decide) (by decide) rfl (by decide) ?_
    exact m2_handle_J72 X hM4 hS (lv_sub hl [0, 1] rfl) r1 hw
  refine z_case hw (fun hc hw => ?_) (fun hc1 hw => ?_)
  · refine z_tin (tgt := 79) (a := 1) hx hb (hM4 31 a1) hc dX2_handle_41 (by decide) (by decide) rfl (by decide) ?_
    exact m2_handle_J79 X hM4 hS (lv_sub hl [2] rfl) r2 hw
  refine z_case hw (fun hc hw => ?_) (fun hc2 hw => ?_)
  · refine z_tin (tgt := 72) (a := 2) hx hb (hM4 31 a1) hc dX2_handle_41 (by decide) (by decide) rfl (by decide) ?_
    exact m2_handle_J72 X hM4 hS (lv_sub hl [0, 1] rfl) r1 hw
  refine z_case hw (fun hc hw => ?_) (fun hc3 hw => ?_)
  · refine z_tin (tgt := 79) (a := 3) hx hb (hM4 31 a1) hc dX2_handle_41 (by decide) (by decide) rfl (by decide) ?_
    exact m2_handle_J79 X hM4 hS (lv_sub hl [2] rfl) r2 hw
  refine z_tout (tgt := 81) hx hb (hM4 31 a1) dX2_handle_41 (by omega) (by decide) ?_
  refine lv_aload_n hx hb dX2_handle_81 rfl (lv_at hl 0 rfl) ?_
  refine r_ga X hS f2_6 dX2_handle_82 ?_
  refine z_bipush hx hb dX2_handle_85 (by decide +kernel) ?_
  refine lv_aload_n hx hb dX2_handle_87 rfl (lv_at hl 0 rfl) ?_
  refine r_ga X hS f2_32 dX2_handle_88 ?_
  refine lv_iload_n hx hb dX2_handle_91 rfl (lv_at hl 1 rfl) ?_
  refine z_il X hS a2_32 hw dX2_handle_92 (fun hw => ?_)
  refine z_sub hx hb hw dX2_handle_93 (fun h5 hw => ?_)
  refine z_il X hS a2_6 hw dX2_handle_94 (fun hw => ?_)
  refine lv_istore_n (lv' := [(3, .int (I3 (V3 6 ((-2) - V3 32 a1)))), (0, .ref h0), (1, .int (I3 a1)), (2, .int (I3 a2))]) hx hb dX2_handle_95 rfl hl (by decide) rfl (fun ls hl => ?_)
  refine lv_aload_n hx hb dX2_handle_96 rfl (lv_at hl 1 rfl) ?_
  refine r_ga X hS f2_31 dX2_handle_97 ?_
  refine lv_iload_n hx hb dX2_handle_100 rfl (lv_at hl 2 rfl) ?_
  refine z_il X hS a2_31 hw dX2_handle_101 (fun hw => ?_)
  refine z_iconst hx hb dX2_handle_102 ?_
  refine z_ine (tgt := 115) hx hb (hM4 31 a1) (⟨by decide, by decide⟩) hw dX2_handle_103 (by decide) (fun hc hw => ?_) (fun hc hw => ?_)
  · refine lv_aload_n hx hb dX2_handle_115 rfl (lv_at hl 1 rfl) ?_
    refine lv_iload_n hx hb dX2_handle_116 rfl (lv_at hl 0 rfl) ?_
    refine lv_iload_n hx hb dX2_handle_117 rfl (lv_at hl 3 rfl) ?_
    refine z_callV X hS (m2_reject (hM4 6 ((-2) - V3 32 a1)) r2 hM4 hw) gv2_197 hy2_reject rfl (by omega) (by decide) (sbs_sub rfl) hl.1 (Nat.le_of_ble_eq_true rfl) dX2_handle_118 rfl (fun x6 V8 Z11 h7 hM9 hw P10 H locs c1 s1 hP hS => ?_)
    obtain ⟨rfl, hw⟩ := hw
    exact m2_handle_J121 X hM9 hS (lv_sub hl [1] rfl)  hw
  · refine lv_aload_n hx hb dX2_handle_106 rfl (lv_at hl 1 rfl) ?_
    refine lv_iload_n hx hb dX2_handle_107 rfl (lv_at hl 0 rfl) ?_
    refine lv_iload_n hx hb dX2_handle_108 rfl (lv_at hl 3 rfl) ?_
    refine z_callV X hS (m2_resolve (hM4 6 ((-2) - V3 32 a1)) r2 hM4 hw) gv2_183 hy2_resolve rfl (by omega) (by decide) (sbs_sub rfl) hl.1 (Nat.le_of_ble_eq_true rfl) dX2_handle_109 rfl (fun x12 V14 Z17 h13 hM15 hw P16 H locs c1 s1 hP hS => ?_)
    obtain ⟨rfl, hw⟩ := hw
    refine lv_goto (tgt := 121) hx hb dX2_handle_112 (by decide) ?_
    exact m2_handle_J121 X hM15 hS (lv_sub hl [1] rfl)  hw
theorem m2_handle_J27 {a1 : Int} {a2 : Int} {V : Mv} {Q : Int → Mv → Prop} {PX : Px} (X : Cx E 1 h0 P0 kc0 ks0 S0 A p l R s m args meth c cX2_handle 4 (some .int) 4) (hM : inM V) (hS : HS E 1 h0 P0 kc0 ks0 (sbs []) A s.heap P (toC V) ZM H locs cells slots) (hl : lv_has ls 4 [(0, .ref h0), (1, .int (I3 a1)), (2, .int (I3 a2))]) (r1 : inR a1) (r2 : inR a2) (hw : w2_handle_J27 a1 a2 V Q) : W p l e R s m args below meth c H locs cells slots (MQx below (QT E 1 h0 true P0 kc0 ks0 (sbs []) A (QL (fun x V1 Z1 => Z1 = ZM ∧ Q x V1)) (PL PX) s) s) (F0 m 27 ls [.ref h0]) := by
  have hx := X.2.1
  have hb := X.2.2.1
  unfold w2_handle_J27 at hw
  refine z_iconst hx hb dX2_handle_27 ?_
  refine lv_goto (tgt := 32) hx hb dX2_handle_28 (by decide) ?_
  exact m2_handle_J32 X hM hS (lv_sub hl [0, 1, 2] rfl) r1 r2 (⟨by decide, by decide⟩) hw
theorem m2_handle {a1 : Int} {a2 : Int} {V : Mv} {Q : Int → Mv → Prop} {PX : Px} (r1 : inR a1) (r2 : inR a2) (hM : inM V) (hw : w2_handle a1 a2 V Q) : MT l S0 E 1 h0 yX2_handle cX2_handle 4 (some .int) 4 true (sbs []) [.int (I3 a1), .int (I3 a2)] (toC V) ZM (QL (fun x V1 Z1 => Z1 = ZM ∧ Q x V1)) (PL PX) := by
  refine mt_of Gk1 (by decide) rfl (Nat.le_of_ble_eq_true rfl) ?_
  intro p e s m below meth c A P ls X hS hl
  have hl : lv_has ls 4 [(0, .ref h0), (1, .int (I3 a1)), (2, .int (I3 a2))] := hl
  have hx := X.2.1
  have hb := X.2.2.1
  unfold w2_handle at hw
  refine lv_aload_n hx hb dX2_handle_0 rfl (lv_at hl 0 rfl) ?_
  refine lv_iload_n hx hb dX2_handle_1 rfl (lv_at hl 1 rfl) ?_
  refine lv_iload_n hx hb dX2_handle_2 rfl (lv_at hl 2 rfl) ?_
  refine z_callV X hS (m2_note r1 r2 hM hw) gv2_190 hy2_note rfl (by omega) (by decide) (sbs_sub rfl) hl.1 (Nat.le_of_ble_eq_true rfl) dX2_handle_3 rfl (fun x18 V20 Z23 h19 hM21 hw P22 H locs c1 s1 hP hS => ?_)
  obtain ⟨rfl, hw⟩ := hw
  refine lv_aload_n hx hb dX2_handle_6 rfl (lv_at hl 0 rfl) ?_
  refine lv_aload_n hx hb dX2_handle_7 rfl (lv_at hl 0 rfl) ?_
  refine r_ga X hS f2_31 dX2_handle_8 ?_
  refine lv_iload_n hx hb dX2_handle_11 rfl (lv_at hl 1 rfl) ?_
  refine z_il X hS a2_31 hw dX2_handle_12 (fun hw => ?_)
  refine z_iconst hx hb dX2_handle_13 ?_
  refine z_ieq (tgt := 27) hx hb (hM21 31 a1) (⟨by decide, by decide⟩) hw dX2_handle_14 (by decide) (fun hc hw => ?_) (fun hc hw => ?_)
  · exact m2_handle_J27 X hM21 hS (lv_sub hl [0, 1, 2] rfl) r1 r2 hw
  · refine lv_aload_n hx hb dX2_handle_17 rfl (lv_at hl 0 rfl) ?_
    refine r_ga X hS f2_31 dX2_handle_18 ?_
    refine lv_iload_n hx hb dX2_handle_21 rfl (lv_at hl 1 rfl) ?_
    refine z_il X hS a2_31 hw dX2_handle_22 (fun hw => ?_)
    refine z_iconst hx hb dX2_handle_23 ?_
    refine z_ine (tgt := 31) hx hb (hM21 31 a1) (⟨by decide, by decide⟩) hw dX2_handle_24 (by decide) (fun hc hw => ?_) (fun hc hw => ?_)
    · refine z_iconst hx hb dX2_handle_31 ?_
      exact m2_handle_J32 X hM21 hS (lv_sub hl [0, 1, 2] rfl) r1 r2 (⟨by decide, by decide⟩) hw
    · exact m2_handle_J27 X hM21 hS (lv_sub hl [0, 1, 2] rfl) r1 r2 hw
theorem m2_array {a1 : Int} {a2 : Int} {V : Mv} {Q : Int → Mv → Prop} {PX : Px} (r1 : inR a1) (r2 : inR a2) (hM : inM V) (hw : w2_array a1 a2 V Q) : MT l S0 E 1 h0 yX2_array cX2_array 4 (some .int) 2 true (sbs []) [.int (I3 a1), .int (I3 a2)] (toC V) ZM (QL (fun x V1 Z1 => Z1 = ZM ∧ Q x V1)) (PL PX) := by
  refine mt_of Gk1 (by decide) rfl (Nat.le_of_ble_eq_true rfl) ?_
  intro p e s m below meth c A P ls X hS hl
  have hl : lv_has ls 4 [(0, .ref h0), (1, .int (I3 a1)), (2, .int (I3 a2))] := hl
  have hx := X.2.1
  have hb := X.2.2.1
  unfold w2_array at hw
  refine lv_aload_n hx hb dX2_array_0 rfl (lv_at hl 0 rfl) ?_
  refine lv_iload_n hx hb dX2_array_1 rfl (lv_at hl 2 rfl) ?_
  refine z_callI X hS (m2_newObject r2 hM hw) gv2_148 hy2_newObject rfl (by omega) (by decide) (sbs_sub rfl) hl.1 (Nat.le_of_ble_eq_true rfl) dX2_array_2 rfl (fun x1 V3 Z6 h2 hM4 hw P5 H locs c1 s1 hP hS => ?_)
  obtain ⟨rfl, hw⟩ := hw
  refine lv_istore_n (lv' := [(3, .int (I3 x1)), (0, .ref h0), (1, .int (I3 a1)), (2, .int (I3 a2))]) hx hb dX2_array_5 rfl hl (by decide) rfl (fun ls hl => ?_)
  refine lv_aload_n hx hb dX2_array_6 rfl (lv_at hl 1 rfl) ?_
  refine r_ga X hS f2_8 dX2_array_7 ?_
  refine lv_iload_n hx hb dX2_array_10 rfl (lv_at hl 0 rfl) ?_
  refine lv_aload_n hx hb dX2_array_11 rfl (lv_at hl 1 rfl) ?_
  refine r_ga X hS f2_43 dX2_array_12 ?_
  refine lv_iload_n hx hb dX2_array_15 rfl (lv_at hl 2 rfl) ?_
  refine z_il X hS a2_43 hw dX2_array_16 (fun hw => ?_)
  refine z_is X hS hM4 a2_8 (hM4 43 a1) hw dX2_array_17 (fun V7 hM8 hw H locs hS => ?_)
  refine lv_aload_n hx hb dX2_array_18 rfl (lv_at hl 1 rfl) ?_
  refine r_ga X hS f2_9 dX2_array_19 ?_
  refine lv_iload_n hx hb dX2_array_22 rfl (lv_at hl 0 rfl) ?_
  refine lv_aload_n hx hb dX2_array_23 rfl (lv_at hl 1 rfl) ?_
  refine r_ga X hS f2_44 dX2_array_24 ?_
  refine lv_iload_n hx hb dX2_array_27 rfl (lv_at hl 2 rfl) ?_
  refine z_il X hS a2_44 hw dX2_array_28 (fun hw => ?_)
  refine z_is X hS hM8 a2_9 (hM8 44 a1) hw dX2_array_29 (fun V9 hM10 hw H locs hS => ?_)
  refine lv_iload_n hx hb dX2_array_30 rfl (lv_at hl 0 rfl) ?_
  refine z_vo2 X hS hw gs2_155 (by omega) hl.1 (Nat.le_of_ble_eq_true rfl) dX2_array_31 (fun h11 hw => ?_)
  exact z_ri X hS hM10 h11 ⟨rfl, hw⟩ dX2_array_34
theorem m2_finish_J48 {V : Mv} {Q : Int → Mv → Prop} {PX : Px} (X : Cx E 1 h0 P0 kc0 ks0 S0 A p l R s m args meth c cX2_finish 4 none 4) (hM : inM V) (hS : HS E 1 h0 P0 kc0 ks0 (sbs []) A s.heap P (toC V) ZM H locs cells slots) (hl : lv_has ls 4 []) (hw : w2_finish_J48  V Q) : W p l e R s m args below meth c H locs cells slots (MQx below (QT E 1 h0 false P0 kc0 ks0 (sbs []) A (QL (fun x V1 Z1 => Z1 = ZM ∧ Q x V1)) (PL PX) s) s) (F0 m 48 ls []) := by
  have hx := X.2.1
  have hb := X.2.2.1
  unfold w2_finish_J48 at hw
  exact z_rv X hS hM ⟨rfl, hw⟩ dX2_finish_48
theorem m2_finish {a1 : Int} {a2 : Int} {V : Mv} {Q : Int → Mv → Prop} {PX : Px} (r1 : inR a1) (r2 : inR a2) (hM : inM V) (hw : w2_finish a1 a2 V Q) : MT l S0 E 1 h0 yX2_finish cX2_finish 4 none 4 false (sbs []) [.int (I3 a1), .int (I3 a2)] (toC V) ZM (QL (fun x V1 Z1 => Z1 = ZM ∧ Q x V1)) (PL PX) := by
  refine mt_of Gk1 (by decide) rfl (Nat.le_of_ble_eq_true rfl) ?_
  intro p e s m below meth c A P ls X hS hl
  have hl : lv_has ls 4 [(0, .ref h0), (1, .int (I3 a1)), (2, .int (I3 a2))] := hl
  have hx := X.2.1
  have hb := X.2.2.1
  unfold w2_finish at hw
  refine lv_iload_n hx hb dX2_finish_0 rfl (lv_at hl 2 rfl) ?_
  refine z_zeq (tgt := 32) hx hb r2 hw dX2_finish_1 (by decide) (fun hc hw => ?_) (fun hc hw => ?_)
  · refine lv_aload_n hx hb dX2_finish_32 rfl (lv_at hl 0 rfl) ?_
    refine lv_aload_n hx hb dX2_finish_33 rfl (lv_at hl 0 rfl) ?_
    refine r_ga X hS f2_46 dX2_finish_34 ?_
    refine lv_iload_n hx hb dX2_finish_37 rfl (lv_at hl 1 rfl) ?_
    refine z_il X hS a2_46 hw dX2_finish_38 (fun hw => ?_)
    refine lv_aload_n hx hb dX2_finish_39 rfl (lv_at hl 0 rfl) ?_
    refine lv_iload_n hx hb dX2_finish_40 rfl (lv_at hl 1 rfl) ?_
    refine z_iconst hx hb dX2_finish_41 ?_
    refine z_callI X hS (m2_array r1 (⟨by decide, by decide⟩) hM hw) gv2_228 hy2_array rfl (by omega) (by decide) (sbs_sub rfl) hl.1 (Nat.le_of_ble_eq_true rfl) dX2_finish_42 rfl (fun x1 V3 Z6 h2 hM4 hw P5 H locs c1 s1 hP hS => ?_)
    obtain ⟨rfl, hw⟩ := hw
    refine z_callV X hS (m2_resolve (hM 46 a1) h2 hM4 hw) gv2_183 hy2_resolve rfl (by omega) (by decide) (sbs_sub rfl) hl.1 (Nat.le_of_ble_eq_true rfl) dX2_finish_45 rfl (fun x7 V9 Z12 h8 hM10 hw P11 H locs c1 s1 hP hS => ?_)
    obtain ⟨rfl, hw⟩ := hw
    exact m2_finish_J48 X hM10 hS (lv_sub hl [] rfl)  hw
  · refine lv_aload_n hx hb dX2_finish_4 rfl (lv_at hl 0 rfl) ?_
    refine lv_iload_n hx hb dX2_finish_5 rfl (lv_at hl 1 rfl) ?_
    refine z_iconst hx hb dX2_finish_6 ?_
    refine z_callI X hS (m2_array r1 (⟨by decide, by decide⟩) hM hw) gv2_228 hy2_array rfl (by omega) (by decide) (sbs_sub rfl) hl.1 (Nat.le_of_ble_eq_true rfl) dX2_finish_7 rfl (fun x13 V15 Z18 h14 hM16 hw P17 H locs c1 s1 hP hS => ?_)
    obtain ⟨rfl, hw⟩ := hw
    refine lv_istore_n (lv' := [(3, .int (I3 x13)), (0, .ref h0), (1, .int (I3 a1)), (2, .int (I3 a2))]) hx hb dX2_finish_10 rfl hl (by decide) rfl (fun ls hl => ?_)
    refine lv_aload_n hx hb dX2_finish_11 rfl (lv_at hl 1 rfl) ?_
    refine lv_iload_n hx hb dX2_finish_12 rfl (lv_at hl 2 rfl) ?_
    refine z_iconst hx hb dX2_finish_13 ?_
    refine z_callI X hS (m2_array r1 (⟨by decide, by decide⟩) hM16 hw) gv2_228 hy2_array rfl (by omega) (by decide) (sbs_sub rfl) hl.1 (Nat.le_of_ble_eq_true rfl) dX2_finish_14 rfl (fun x19 V21 Z24 h20 hM22 hw P23 H locs c1 s1 hP hS => ?_)
    obtain ⟨rfl, hw⟩ := hw
    refine lv_pop hx hb dX2_finish_17 rfl ?_
    refine lv_aload_n hx hb dX2_finish_18 rfl (lv_at hl 1 rfl) ?_
    refine lv_aload_n hx hb dX2_finish_19 rfl (lv_at hl 1 rfl) ?_
    refine r_ga X hS f2_46 dX2_finish_20 ?_
    refine lv_iload_n hx hb dX2_finish_23 rfl (lv_at hl 2 rfl) ?_
    refine z_il X hS a2_46 hw dX2_finish_24 (fun hw => ?_)
    refine lv_iload_n hx hb dX2_finish_25 rfl (lv_at hl 0 rfl) ?_
    refine z_callV X hS (m2_reject (hM22 46 a1) h14 hM22 hw) gv2_197 hy2_reject rfl (by omega) (by decide) (sbs_sub rfl) hl.1 (Nat.le_of_ble_eq_true rfl) dX2_finish_26 rfl (fun x25 V27 Z30 h26 hM28 hw P29 H locs c1 s1 hP hS => ?_)
    obtain ⟨rfl, hw⟩ := hw
    refine lv_goto (tgt := 48) hx hb dX2_finish_29 (by decide) ?_
    exact m2_finish_J48 X hM28 hS (lv_sub hl [] rfl)  hw
theorem m2_element_J124 {V : Mv} {Q : Int → Mv → Prop} {PX : Px} (X : Cx E 1 h0 P0 kc0 ks0 S0 A p l R s m args meth c cX2_element 6 none 5) (hM : inM V) (hS : HS E 1 h0 P0 kc0 ks0 (sbs []) A s.heap P (toC V) ZM H locs cells slots) (hl : lv_has ls 6 []) (hw : w2_element_J124  V Q) : W p l e R s m args below meth c H locs cells slots (MQx below (QT E 1 h0 false P0 kc0 ks0 (sbs []) A (QL (fun x V1 Z1 => Z1 = ZM ∧ Q x V1)) (PL PX) s) s) (F0 m 124 ls []) := by
  have hx := X.2.1
  have hb := X.2.2.1
  unfold w2_element_J124 at hw
  exact z_rv X hS hM ⟨rfl, hw⟩ dX2_element_124
theorem m2_element_J121 {b1 : Int} {b2 : Int} {V : Mv} {Q : Int → Mv → Prop} {PX : Px} (X : Cx E 1 h0 P0 kc0 ks0 S0 A p l R s m args meth c cX2_element 6 none 5) (hM : inM V) (hS : HS E 1 h0 P0 kc0 ks0 (sbs []) A s.heap P (toC V) ZM H locs cells slots) (hl : lv_has ls 6 []) (sr1 : inR b1) (sr2 : inR b2) (hw : w2_element_J121 b1 b2 V Q) : W p l e R s m args below meth c H locs cells slots (MQx below (QT E 1 h0 false P0 kc0 ks0 (sbs []) A (QL (fun x V1 Z1 => Z1 = ZM ∧ Q x V1)) (PL PX) s) s) (F0 m 121 ls [.int (I3 b2), .int (I3 b1), .ref h0]) := by
  have hx := X.2.1
  have hb := X.2.2.1
  unfold w2_element_J121 at hw
  refine z_callV X hS (m2_finish sr1 sr2 hM hw) gv2_224 hy2_finish rfl (by omega) (by decide) (sbs_sub rfl) hl.1 (Nat.le_of_ble_eq_true rfl) dX2_element_121 rfl (fun x1 V3 Z6 h2 hM4 hw P5 H locs c1 s1 hP hS => ?_)
  obtain ⟨rfl, hw⟩ := hw
  exact m2_element_J124 X hM4 hS (lv_sub hl [] rfl)  hw
theorem m2_element_J86 {a1 : Int} {a4 : Int} {V : Mv} {Q : Int → Mv → Prop} {PX : Px} (X : Cx E 1 h0 P0 kc0 ks0 S0 A p l R s m args meth c cX2_element 6 none 5) (hM : inM V) (hS : HS E 1 h0 P0 kc0 ks0 (sbs []) A s.heap P (toC V) ZM H locs cells slots) (hl : lv_has ls 6 [(0, .ref h0), (1, .int (I3 a1)), (4, .int (I3 a4))]) (r1 : inR a1) (r4 : inR a4) (hw : w2_element_J86 a1 a4 V Q) : W p l e R s m args below meth c H locs cells slots (MQx below (QT E 1 h0 false P0 kc0 ks0 (sbs []) A (QL (fun x V1 Z1 => Z1 = ZM ∧ Q x V1)) (PL PX) s) s) (F0 m 86 ls []) := by
  have hx := X.2.1
  have hb := X.2.2.1
  unfold w2_element_J86 at hw
  refine lv_aload_n hx hb dX2_element_86 rfl (lv_at hl 0 rfl) ?_
  refine r_ga X hS f2_45 dX2_element_87 ?_
  refine lv_iload hx hb dX2_element_90 (lv_at hl 2 rfl) ?_
  refine lv_dup2_11 hx hb dX2_element_92 rfl rfl ?_
  refine z_il X hS a2_45 hw dX2_element_93 (fun hw => ?_)
  refine z_iconst hx hb dX2_element_94 ?_
  refine z_sub hx hb hw dX2_element_95 (fun h7 hw => ?_)
  refine z_is X hS hM a2_45 h7 hw dX2_element_96 (fun V8 hM9 hw H locs hS => ?_)
  refine lv_aload_n hx hb dX2_element_97 rfl (lv_at hl 0 rfl) ?_
  refine r_ga X hS f2_45 dX2_element_98 ?_
  refine lv_iload hx hb dX2_element_101 (lv_at hl 2 rfl) ?_
  refine z_il X hS a2_45 hw dX2_element_103 (fun hw => ?_)
  refine z_zne (tgt := 124) hx hb (hM9 45 a4) hw dX2_element_104 (by decide) (fun hc hw => ?_) (fun hc hw => ?_)
  · exact m2_element_J124 X hM9 hS (lv_sub hl [] rfl)  hw
  · refine lv_aload_n hx hb dX2_element_107 rfl (lv_at hl 0 rfl) ?_
    refine lv_iload hx hb dX2_element_108 (lv_at hl 2 rfl) ?_
    refine lv_iload_n hx hb dX2_element_110 rfl (lv_at hl 1 rfl) ?_
    refine z_bipush hx hb dX2_element_111 (by decide +kernel) ?_
    refine z_ine (tgt := 120) hx hb r1 (⟨by decide, by decide⟩) hw dX2_element_113 (by decide) (fun hc hw => ?_) (fun hc hw => ?_)
    · refine z_iconst hx hb dX2_element_120 ?_
      exact m2_element_J121 X hM9 hS (lv_sub hl [] rfl) r4 (⟨by decide, by decide⟩) hw
    · refine z_iconst hx hb dX2_element_116 ?_
      refine lv_goto (tgt := 121) hx hb dX2_element_117 (by decide) ?_
      exact m2_element_J121 X hM9 hS (lv_sub hl [] rfl) r4 (⟨by decide, by decide⟩) hw
theorem m2_element_J66 {a1 : Int} {a2 : Int} {a3 : Int} {a4 : Int} {a5 : Int} {b1 : Int} {b2 : Int} {V : Mv} {Q : Int → Mv → Prop} {PX : Px} (X : Cx E 1 h0 P0 kc0 ks0 S0 A p l R s m args meth c cX2_element 6 none 5) (hM : inM V) (hS : HS E 1 h0 P0 kc0 ks0 (sbs []) A s.heap P (toC V) ZM H locs cells slots) (hl : lv_has ls 6 [(0, .ref h0), (1, .int (I3 a1)), (2, .int (I3 a2)), (3, .int (I3 a3)), (4, .int (I3 a4)), (5, .int (I3 a5))]) (r1 : inR a1) (r2 : inR a2) (r3 : inR a3) (r4 : inR a4) (r5 : inR a5) (sr1 : inR b1) (sr2 : inR b2) (hw : w2_element_J66 a1 a2 a3 a4 a5 b1 b2 V Q) : W p l e R s m args below meth c H locs cells slots (MQx below (QT E 1 h0 false P0 kc0 ks0 (sbs []) A (QL (fun x V1 Z1 => Z1 = ZM ∧ Q x V1)) (PL PX) s) s) (F0 m 66 ls [.int (I3 b2), .int (I3 b1), .ref (P 8)]) := by
  have hx := X.2.1
  have hb := X.2.2.1
  unfold w2_element_J66 at hw
  refine z_is X hS hM a2_8 sr2 hw dX2_element_66 (fun V10 hM11 hw H locs hS => ?_)
  refine lv_aload_n hx hb dX2_element_67 rfl (lv_at hl 0 rfl) ?_
  refine r_ga X hS f2_9 dX2_element_68 ?_
  refine lv_iload hx hb dX2_element_71 (lv_at hl 5 rfl) ?_
  refine lv_iload_n hx hb dX2_element_73 rfl (lv_at hl 3 rfl) ?_
  refine z_is X hS hM11 a2_9 r3 hw dX2_element_74 (fun V12 hM13 hw H locs hS => ?_)
  refine lv_aload_n hx hb dX2_element_75 rfl (lv_at hl 0 rfl) ?_
  refine r_ga X hS f2_39 dX2_element_76 ?_
  refine lv_iload_n hx hb dX2_element_79 rfl (lv_at hl 2 rfl) ?_
  refine lv_iload hx hb dX2_element_80 (lv_at hl 5 rfl) ?_
  refine z_vo2 X hS hw gs2_155 (by omega) hl.1 (Nat.le_of_ble_eq_true rfl) dX2_element_82 (fun h14 hw => ?_)
  refine z_is X hS hM13 a2_39 h14 hw dX2_element_85 (fun V15 hM16 hw H locs hS => ?_)
  exact m2_element_J86 X hM16 hS (lv_sub hl [0, 1, 4] rfl) r1 r4 hw
theorem m2_element_J43 {a1 : Int} {a2 : Int} {a3 : Int} {a4 : Int} {V : Mv} {Q : Int → Mv → Prop} {PX : Px} (X : Cx E 1 h0 P0 kc0 ks0 S0 A p l R s m args meth c cX2_element 6 none 5) (hM : inM V) (hS : HS E 1 h0 P0 kc0 ks0 (sbs []) A s.heap P (toC V) ZM H locs cells slots) (hl : lv_has ls 6 [(0, .ref h0), (1, .int (I3 a1)), (2, .int (I3 a2)), (3, .int (I3 a3)), (4, .int (I3 a4))]) (r1 : inR a1) (r2 : inR a2) (r3 : inR a3) (r4 : inR a4) (hw : w2_element_J43 a1 a2 a3 a4 V Q) : W p l e R s m args below meth c H locs cells slots (MQx below (QT E 1 h0 false P0 kc0 ks0 (sbs []) A (QL (fun x V1 Z1 => Z1 = ZM ∧ Q x V1)) (PL PX) s) s) (F0 m 43 ls []) := by
  have hx := X.2.1
  have hb := X.2.2.1
  unfold w2_element_J43 at hw
  refine lv_aload_n hx hb dX2_element_43 rfl (lv_at hl 0 rfl) ?_
  refine z_iconst hx hb dX2_element_44 ?_
  refine z_callI X hS (m2_newObject (⟨by decide, by decide⟩) hM hw) gv2_148 hy2_newObject rfl (by omega) (by decide) (sbs_sub rfl) hl.1 (Nat.le_of_ble_eq_true rfl) dX2_element_45 rfl (fun x17 V19 Z22 h18 hM20 hw P21 H locs c1 s1 hP hS => ?_)
  obtain ⟨rfl, hw⟩ := hw
  refine lv_istore (lv' := [(5, .int (I3 x17)), (0, .ref h0), (1, .int (I3 a1)), (2, .int (I3 a2)), (3, .int (I3 a3)), (4, .int (I3 a4))]) hx hb dX2_element_48 hl (by decide) rfl (fun ls hl => ?_)
  refine lv_aload_n hx hb dX2_element_50 rfl (lv_at hl 1 rfl) ?_
  refine r_ga X hS f2_8 dX2_element_51 ?_
  refine lv_iload hx hb dX2_element_54 (lv_at hl 0 rfl) ?_
  refine lv_iload_n hx hb dX2_element_56 rfl (lv_at hl 2 rfl) ?_
  refine z_iconst hx hb dX2_element_57 ?_
  refine z_ine (tgt := 65) hx hb r1 (⟨by decide, by decide⟩) hw dX2_element_58 (by decide) (fun hc hw => ?_) (fun hc hw => ?_)
  · refine z_iconst hx hb dX2_element_65 ?_
    exact m2_element_J66 X hM20 hS (lv_sub hl [1, 2, 3, 4, 5, 0] rfl) r1 r2 r3 r4 h18 h18 (⟨by decide, by decide⟩) hw
  · refine z_iconst hx hb dX2_element_61 ?_
    refine lv_goto (tgt := 66) hx hb dX2_element_62 (by decide) ?_
    exact m2_element_J66 X hM20 hS (lv_sub hl [1, 2, 3, 4, 5, 0] rfl) r1 r2 r3 r4 h18 h18 (⟨by decide, by decide⟩) hw
theorem m2_element {a1 : Int} {a2 : Int} {a3 : Int} {V : Mv} {Q : Int → Mv → Prop} {PX : Px} (r1 : inR a1) (r2 : inR a2) (r3 : inR a3) (hM : inM V) (hw : w2_element a1 a2 a3 V Q) : MT l S0 E 1 h0 yX2_element cX2_element 6 none 5 false (sbs []) [.int (I3 a1), .int (I3 a2), .int (I3 a3)] (toC V) ZM (QL (fun x V1 Z1 => Z1 = ZM ∧ Q x V1)) (PL PX) := by
  refine mt_of Gk1 (by decide) rfl (Nat.le_of_ble_eq_true rfl) ?_
  intro p e s m below meth c A P ls X hS hl
  have hl : lv_has ls 6 [(0, .ref h0), (1, .int (I3 a1)), (2, .int (I3 a2)), (3, .int (I3 a3))] := hl
  have hx := X.2.1
  have hb := X.2.2.1
  unfold w2_element at hw
  refine lv_aload_n hx hb dX2_element_0 rfl (lv_at hl 0 rfl) ?_
  refine r_ga X hS f2_41 dX2_element_1 ?_
  refine lv_iload_n hx hb dX2_element_4 rfl (lv_at hl 2 rfl) ?_
  refine z_zl X hS a2_41 hw dX2_element_5 (fun hw => ?_)
  refine z_zeq (tgt := 10) hx hb (hM 41 a2) hw dX2_element_6 (by decide) (fun hc hw => ?_) (fun hc hw => ?_)
  · refine lv_aload_n hx hb dX2_element_10 rfl (lv_at hl 0 rfl) ?_
    refine r_ga X hS f2_41 dX2_element_11 ?_
    refine lv_iload_n hx hb dX2_element_14 rfl (lv_at hl 2 rfl) ?_
    refine z_iconst hx hb dX2_element_15 ?_
    refine z_zs X hS hM a2_41 (⟨by decide, by decide⟩) hw dX2_element_16 (fun V23 hM24 hw H locs hS => ?_)
    refine lv_aload_n hx hb dX2_element_17 rfl (lv_at hl 0 rfl) ?_
    refine r_ga X hS f2_40 dX2_element_18 ?_
    refine lv_iload_n hx hb dX2_element_21 rfl (lv_at hl 2 rfl) ?_
    refine z_il X hS a2_40 hw dX2_element_22 (fun hw => ?_)
    refine lv_istore (lv' := [(4, .int (I3 (V23 40 a2))), (0, .ref h0), (1, .int (I3 a1)), (2, .int (I3 a2)), (3, .int (I3 a3))]) hx hb dX2_element_23 hl (by decide) rfl (fun ls hl => ?_)
    refine lv_aload_n hx hb dX2_element_25 rfl (lv_at hl 1 rfl) ?_
    refine r_ga X hS f2_39 dX2_element_26 ?_
    refine lv_iload_n hx hb dX2_element_29 rfl (lv_at hl 3 rfl) ?_
    refine lv_iload_n hx hb dX2_element_30 rfl (lv_at hl 4 rfl) ?_
    refine z_is X hS hM24 a2_39 r3 hw dX2_element_31 (fun V25 hM26 hw H locs hS => ?_)
    refine lv_iload_n hx hb dX2_element_32 rfl (lv_at hl 2 rfl) ?_
    refine z_iconst hx hb dX2_element_33 ?_
    refine z_ieq (tgt := 43) hx hb r1 (⟨by decide, by decide⟩) hw dX2_element_34 (by decide) (fun hc hw => ?_) (fun hc hw => ?_)
    · exact m2_element_J43 X hM26 hS (lv_sub hl [1, 2, 3, 4, 0] rfl) r1 r2 r3 (hM24 40 a2) hw
    · refine lv_iload_n hx hb dX2_element_37 rfl (lv_at hl 2 rfl) ?_
      refine z_bipush hx hb dX2_element_38 (by decide +kernel) ?_
      refine z_ine (tgt := 86) hx hb r1 (⟨by decide, by decide⟩) hw dX2_element_40 (by decide) (fun hc hw => ?_) (fun hc hw => ?_)
      · exact m2_element_J86 X hM26 hS (lv_sub hl [1, 2, 0] rfl) r1 (hM24 40 a2) hw
      · exact m2_element_J43 X hM26 hS (lv_sub hl [1, 2, 3, 4, 0] rfl) r1 r2 r3 (hM24 40 a2) hw
  · exact z_rv X hS hM ⟨rfl, hw⟩ dX2_element_9
theorem m2_last_J66 {a6 : Int} {b1 : Int} {b2 : Int} {V : Mv} {Q : Int → Mv → Prop} {PX : Px} (X : Cx E 1 h0 P0 kc0 ks0 S0 A p l R s m args meth c cX2_last 8 (some .int) 5) (hM : inM V) (hS : HS E 1 h0 P0 kc0 ks0 (sbs []) A s.heap P (toC V) ZM H locs cells slots) (hl : lv_has ls 8 [(0, .ref h0), (6, .int (I3 a6))]) (r6 : inR a6) (sr1 : inR b1) (sr2 : inR b2) (hw : w2_last_J66 a6 b1 b2 V Q) : W p l e R s m args below meth c H locs cells slots (MQx below (QT E 1 h0 true P0 kc0 ks0 (sbs []) A (QL (fun x V1 Z1 => Z1 = ZM ∧ Q x V1)) (PL PX) s) s) (F0 m 66 ls [.int (I3 b2), .int (I3 b1), .ref h0]) := by
  have hx := X.2.1
  have hb := X.2.2.1
  unfold w2_last_J66 at hw
  refine lv_iload hx hb dX2_last_66 (lv_at hl 1 rfl) ?_
  refine z_iconst hx hb dX2_last_68 ?_
  refine z_iconst hx hb dX2_last_69 ?_
  refine z_callI X hS (m2_then_2 sr1 sr2 r6 (⟨by decide, by decide⟩) (⟨by decide, by decide⟩) hM hw) gv2_220 hy2_then_2 rfl (by omega) (by decide) (sbs_sub rfl) hl.1 (Nat.le_of_ble_eq_true rfl) dX2_last_70 rfl (fun x1 V3 Z6 h2 hM4 hw P5 H locs c1 s1 hP hS => ?_)
  obtain ⟨rfl, hw⟩ := hw
  refine z_vo2 X hS hw gs2_155 (by omega) hl.1 (Nat.le_of_ble_eq_true rfl) dX2_last_73 (fun h7 hw => ?_)
  refine lv_istore (lv' := [(7, .int (I3 (-2 - x1))), (0, .ref h0), (6, .int (I3 a6))]) hx hb dX2_last_76 hl (by decide) rfl (fun ls hl => ?_)
  refine lv_aload_n hx hb dX2_last_78 rfl (lv_at hl 1 rfl) ?_
  refine z_iconst hx hb dX2_last_79 ?_
  refine z_pz X hS hM4 f2_51 p2_51 (⟨by decide, by decide⟩) hw dX2_last_80 (fun V8 hM9 hw H locs hS => ?_)
  refine lv_iload hx hb dX2_last_83 (lv_at hl 0 rfl) ?_
  exact z_ri X hS hM9 h7 ⟨rfl, hw⟩ dX2_last_85
theorem m2_last {a1 : Int} {a2 : Int} {a3 : Int} {V : Mv} {Q : Int → Mv → Prop} {PX : Px} (r1 : inR a1) (r2 : inR a2) (r3 : inR a3) (hM : inM V) (hw : w2_last a1 a2 a3 V Q) : MT l S0 E 1 h0 yX2_last cX2_last 8 (some .int) 5 true (sbs []) [.int (I3 a1), .int (I3 a2), .int (I3 a3)] (toC V) ZM (QL (fun x V1 Z1 => Z1 = ZM ∧ Q x V1)) (PL PX) := by
  refine mt_of Gk1 (by decide) rfl (Nat.le_of_ble_eq_true rfl) ?_
  intro p e s m below meth c A P ls X hS hl
  have hl : lv_has ls 8 [(0, .ref h0), (1, .int (I3 a1)), (2, .int (I3 a2)), (3, .int (I3 a3))] := hl
  have hx := X.2.1
  have hb := X.2.2.1
  unfold w2_last at hw
  refine lv_aload_n hx hb dX2_last_0 rfl (lv_at hl 0 rfl) ?_
  refine lv_iload_n hx hb dX2_last_1 rfl (lv_at hl 2 rfl) ?_
  refine z_iconst hx hb dX2_last_2 ?_
  refine z_callI X hS (m2_handle r2 (⟨by decide, by decide⟩) hM hw) gv2_200 hy2_handle rfl (by omega) (by decide) (sbs_sub rfl) hl.1 (Nat.le_of_ble_eq_true rfl) dX2_last_3 rfl (fun x10 V12 Z15 h11 hM13 hw P14 H locs c1 s1 hP hS => ?_)
  obtain ⟨rfl, hw⟩ := hw
  refine lv_istore (lv' := [(4, .int (I3 x10)), (0, .ref h0), (1, .int (I3 a1)), (2, .int (I3 a2)), (3, .int (I3 a3))]) hx hb dX2_last_6 hl (by decide) rfl (fun ls hl => ?_)
  refine lv_aload_n hx hb dX2_last_8 rfl (lv_at hl 1 rfl) ?_
  refine z_gi X hS f2_51 dX2_last_9 ?_
  refine z_zeq (tgt := 18) hx hb (hM13 51 0) hw dX2_last_12 (by decide) (fun hc hw => ?_) (fun hc hw => ?_)
  · refine lv_aload_n hx hb dX2_last_18 rfl (lv_at hl 1 rfl) ?_
    refine lv_iload hx hb dX2_last_19 (lv_at hl 0 rfl) ?_
    refine z_callI X hS (m2_promiseOf h11 hM13 hw) gv2_214 hy2_promiseOf rfl (by omega) (by decide) (sbs_sub rfl) hl.1 (Nat.le_of_ble_eq_true rfl) dX2_last_21 rfl (fun x16 V18 Z21 h17 hM19 hw P20 H locs c1 s1 hP hS => ?_)
    obtain ⟨rfl, hw⟩ := hw
    refine lv_istore (lv' := [(5, .int (I3 x16)), (4, .int (I3 x10)), (0, .ref h0), (1, .int (I3 a1)), (2, .int (I3 a2)), (3, .int (I3 a3))]) hx hb dX2_last_24 hl (by decide) rfl (fun ls hl => ?_)
    refine lv_aload_n hx hb dX2_last_26 rfl (lv_at hl 2 rfl) ?_
    refine z_gi X hS f2_42 dX2_last_27 ?_
    refine lv_istore (lv' := [(6, .int (I3 (V18 42 0))), (5, .int (I3 x16)), (4, .int (I3 x10)), (0, .ref h0), (1, .int (I3 a1)), (2, .int (I3 a2)), (3, .int (I3 a3))]) hx hb dX2_last_30 hl (by decide) rfl (fun ls hl => ?_)
    refine lv_aload_n hx hb dX2_last_32 rfl (lv_at hl 3 rfl) ?_
    refine lv_dup hx hb dX2_last_33 rfl ?_
    refine z_gi X hS f2_42 dX2_last_34 ?_
    refine z_iconst hx hb dX2_last_37 ?_
    refine z_add hx hb hw dX2_last_38 (fun h22 hw => ?_)
    refine z_pi X hS hM19 f2_42 p2_42 h22 hw dX2_last_39 (fun V23 hM24 hw H locs hS => ?_)
    refine lv_aload_n hx hb dX2_last_42 rfl (lv_at hl 3 rfl) ?_
    refine r_ga X hS f2_39 dX2_last_43 ?_
    refine lv_iload hx hb dX2_last_46 (lv_at hl 0 rfl) ?_
    refine lv_iload_n hx hb dX2_last_48 rfl (lv_at hl 6 rfl) ?_
    refine z_is X hS hM24 a2_39 r3 hw dX2_last_49 (fun V25 hM26 hw H locs hS => ?_)
    refine lv_aload_n hx hb dX2_last_50 rfl (lv_at hl 3 rfl) ?_
    refine lv_iload hx hb dX2_last_51 (lv_at hl 1 rfl) ?_
    refine lv_iload_n hx hb dX2_last_53 rfl (lv_at hl 4 rfl) ?_
    refine z_bipush hx hb dX2_last_54 (by decide +kernel) ?_
    refine z_ine (tgt := 64) hx hb r1 (⟨by decide, by decide⟩) hw dX2_last_56 (by decide) (fun hc hw => ?_) (fun hc hw => ?_)
    · refine z_bipush hx hb dX2_last_64 (by decide +kernel) ?_
      exact m2_last_J66 X hM26 hS (lv_sub hl [3, 0] rfl) (hM19 42 0) h17 (⟨by decide, by decide⟩) hw
    · refine z_bipush hx hb dX2_last_59 (by decide +kernel) ?_
      refine lv_goto (tgt := 66) hx hb dX2_last_61 (by decide) ?_
      exact m2_last_J66 X hM26 hS (lv_sub hl [3, 0] rfl) (hM19 42 0) h17 (⟨by decide, by decide⟩) hw
  · refine lv_iload hx hb dX2_last_15 (lv_at hl 0 rfl) ?_
    exact z_ri X hS hM13 h11 ⟨rfl, hw⟩ dX2_last_17
theorem m2_goOn {a1 : Int} {V : Mv} {Q : Int → Mv → Prop} {PX : Px} (r1 : inR a1) (hM : inM V) (hw : w2_goOn a1 V Q) : MT l S0 E 1 h0 yX2_goOn cX2_goOn 3 none 5 false (sbs []) [.int (I3 a1)] (toC V) ZM (QL (fun x V1 Z1 => Z1 = ZM ∧ Q x V1)) (PL PX) := by
  refine mt_of Gk1 (by decide) rfl (Nat.le_of_ble_eq_true rfl) ?_
  intro p e s m below meth c A P ls X hS hl
  have hl : lv_has ls 3 [(0, .ref h0), (1, .int (I3 a1))] := hl
  have hx := X.2.1
  have hb := X.2.2.1
  unfold w2_goOn at hw
  refine lv_aload_n hx hb dX2_goOn_0 rfl (lv_at hl 0 rfl) ?_
  refine r_ga X hS f2_49 dX2_goOn_1 ?_
  refine lv_iload_n hx hb dX2_goOn_4 rfl (lv_at hl 1 rfl) ?_
  refine z_il X hS a2_49 hw dX2_goOn_5 (fun hw => ?_)
  refine lv_aload_n hx hb dX2_goOn_6 rfl (lv_at hl 0 rfl) ?_
  refine r_ga X hS f2_44 dX2_goOn_7 ?_
  refine lv_iload_n hx hb dX2_goOn_10 rfl (lv_at hl 1 rfl) ?_
  refine z_il X hS a2_44 hw dX2_goOn_11 (fun hw => ?_)
  refine z_ine (tgt := 32) hx hb (hM 49 a1) (hM 44 a1) hw dX2_goOn_12 (by decide) (fun hc hw => ?_) (fun hc hw => ?_)
  · refine lv_aload_n hx hb dX2_goOn_32 rfl (lv_at hl 0 rfl) ?_
    refine r_ga X hS f2_39 dX2_goOn_33 ?_
    refine lv_aload_n hx hb dX2_goOn_36 rfl (lv_at hl 0 rfl) ?_
    refine r_ga X hS f2_43 dX2_goOn_37 ?_
    refine lv_iload_n hx hb dX2_goOn_40 rfl (lv_at hl 1 rfl) ?_
    refine z_il X hS a2_43 hw dX2_goOn_41 (fun hw => ?_)
    refine lv_aload_n hx hb dX2_goOn_42 rfl (lv_at hl 0 rfl) ?_
    refine r_ga X hS f2_49 dX2_goOn_43 ?_
    refine lv_iload_n hx hb dX2_goOn_46 rfl (lv_at hl 1 rfl) ?_
    refine z_il X hS a2_49 hw dX2_goOn_47 (fun hw => ?_)
    refine z_add hx hb hw dX2_goOn_48 (fun h1 hw => ?_)
    refine z_il X hS a2_39 hw dX2_goOn_49 (fun hw => ?_)
    refine lv_istore_n (lv' := [(2, .int (I3 (V 39 (V 43 a1 + V 49 a1)))), (0, .ref h0), (1, .int (I3 a1))]) hx hb dX2_goOn_50 rfl hl (by decide) rfl (fun ls hl => ?_)
    refine lv_aload_n hx hb dX2_goOn_51 rfl (lv_at hl 1 rfl) ?_
    refine r_ga X hS f2_49 dX2_goOn_52 ?_
    refine lv_iload_n hx hb dX2_goOn_55 rfl (lv_at hl 2 rfl) ?_
    refine lv_dup2_11 hx hb dX2_goOn_56 rfl rfl ?_
    refine z_il X hS a2_49 hw dX2_goOn_57 (fun hw => ?_)
    refine z_iconst hx hb dX2_goOn_58 ?_
    refine z_add hx hb hw dX2_goOn_59 (fun h2 hw => ?_)
    refine z_is X hS hM a2_49 h2 hw dX2_goOn_60 (fun V3 hM4 hw H locs hS => ?_)
    refine lv_aload_n hx hb dX2_goOn_61 rfl (lv_at hl 1 rfl) ?_
    refine lv_aload_n hx hb dX2_goOn_62 rfl (lv_at hl 1 rfl) ?_
    refine lv_iload_n hx hb dX2_goOn_63 rfl (lv_at hl 0 rfl) ?_
    refine z_callI X hS (m2_promiseOf (hM 39 (V 43 a1 + V 49 a1)) hM4 hw) gv2_214 hy2_promiseOf rfl (by omega) (by decide) (sbs_sub rfl) hl.1 (Nat.le_of_ble_eq_true rfl) dX2_goOn_64 rfl (fun x5 V7 Z10 h6 hM8 hw P9 H locs c1 s1 hP hS => ?_)
    obtain ⟨rfl, hw⟩ := hw
    refine z_bipush hx hb dX2_goOn_67 (by decide +kernel) ?_
    refine lv_iload_n hx hb dX2_goOn_69 rfl (lv_at hl 2 rfl) ?_
    refine z_bipush hx hb dX2_goOn_70 (by decide +kernel) ?_
    refine lv_iload_n hx hb dX2_goOn_72 rfl (lv_at hl 2 rfl) ?_
    refine z_iconst hx hb dX2_goOn_73 ?_
    refine z_callV X hS (m2_performThen h6 (⟨by decide, by decide⟩) r1 (⟨by decide, by decide⟩) r1 (⟨by decide, by decide⟩) hM8 hw) gv2_175 hy2_performThen rfl (by omega) (by decide) (sbs_sub rfl) hl.1 (Nat.le_of_ble_eq_true rfl) dX2_goOn_74 rfl (fun x11 V13 Z16 h12 hM14 hw P15 H locs c1 s1 hP hS => ?_)
    obtain ⟨rfl, hw⟩ := hw
    exact z_rv X hS hM14 ⟨rfl, hw⟩ dX2_goOn_77
  · refine lv_aload_n hx hb dX2_goOn_15 rfl (lv_at hl 0 rfl) ?_
    refine lv_aload_n hx hb dX2_goOn_16 rfl (lv_at hl 0 rfl) ?_
    refine r_ga X hS f2_46 dX2_goOn_17 ?_
    refine lv_iload_n hx hb dX2_goOn_20 rfl (lv_at hl 1 rfl) ?_
    refine z_il X hS a2_46 hw dX2_goOn_21 (fun hw => ?_)
    refine lv_aload_n hx hb dX2_goOn_22 rfl (lv_at hl 0 rfl) ?_
    refine r_ga X hS f2_47 dX2_goOn_23 ?_
    refine lv_iload_n hx hb dX2_goOn_26 rfl (lv_at hl 1 rfl) ?_
    refine z_il X hS a2_47 hw dX2_goOn_27 (fun hw => ?_)
    refine z_callV X hS (m2_resolve (hM 46 a1) (hM 47 a1) hM hw) gv2_183 hy2_resolve rfl (by omega) (by decide) (sbs_sub rfl) hl.1 (Nat.le_of_ble_eq_true rfl) dX2_goOn_28 rfl (fun x17 V19 Z22 h18 hM20 hw P21 H locs c1 s1 hP hS => ?_)
    obtain ⟨rfl, hw⟩ := hw
    exact z_rv X hS hM20 ⟨rfl, hw⟩ dX2_goOn_31
theorem m2_resume_J45 {a1 : Int} {V : Mv} {Q : Int → Mv → Prop} {PX : Px} (X : Cx E 1 h0 P0 kc0 ks0 S0 A p l R s m args meth c cX2_resume 4 none 6) (hM : inM V) (hS : HS E 1 h0 P0 kc0 ks0 (sbs []) A s.heap P (toC V) ZM H locs cells slots) (hl : lv_has ls 4 [(0, .ref h0), (1, .int (I3 a1))]) (r1 : inR a1) (hw : w2_resume_J45 a1 V Q) : W p l e R s m args below meth c H locs cells slots (MQx below (QT E 1 h0 false P0 kc0 ks0 (sbs []) A (QL (fun x V1 Z1 => Z1 = ZM ∧ Q x V1)) (PL PX) s) s) (F0 m 45 ls []) := by
  have hx := X.2.1
  have hb := X.2.2.1
  unfold w2_resume_J45 at hw
  refine lv_aload_n hx hb dX2_resume_45 rfl (lv_at hl 0 rfl) ?_
  refine lv_iload_n hx hb dX2_resume_46 rfl (lv_at hl 1 rfl) ?_
  refine z_callV X hS (m2_goOn r1 hM hw) gv2_244 hy2_goOn rfl (by omega) (by decide) (sbs_sub rfl) hl.1 (Nat.le_of_ble_eq_true rfl) dX2_resume_47 rfl (fun x1 V3 Z6 h2 hM4 hw P5 H locs c1 s1 hP hS => ?_)
  obtain ⟨rfl, hw⟩ := hw
  refine lv_aload_n hx hb dX2_resume_50 rfl (lv_at hl 0 rfl) ?_
  refine z_iconst hx hb dX2_resume_51 ?_
  refine z_pz X hS hM4 f2_51 p2_51 (⟨by decide, by decide⟩) hw dX2_resume_52 (fun V7 hM8 hw H locs hS => ?_)
  exact z_rv X hS hM8 ⟨rfl, hw⟩ dX2_resume_55
theorem m2_resume {a1 : Int} {a2 : Int} {V : Mv} {Q : Int → Mv → Prop} {PX : Px} (r1 : inR a1) (r2 : inR a2) (hM : inM V) (hw : w2_resume a1 a2 V Q) : MT l S0 E 1 h0 yX2_resume cX2_resume 4 none 6 false (sbs []) [.int (I3 a1), .int (I3 a2)] (toC V) ZM (QL (fun x V1 Z1 => Z1 = ZM ∧ Q x V1)) (PL PX) := by
  refine mt_of Gk1 (by decide) rfl (Nat.le_of_ble_eq_true rfl) ?_
  intro p e s m below meth c A P ls X hS hl
  have hl : lv_has ls 4 [(0, .ref h0), (1, .int (I3 a1)), (2, .int (I3 a2))] := hl
  have hx := X.2.1
  have hb := X.2.2.1
  unfold w2_resume at hw
  refine lv_aload_n hx hb dX2_resume_0 rfl (lv_at hl 0 rfl) ?_
  refine r_ga X hS f2_48 dX2_resume_1 ?_
  refine lv_iload_n hx hb dX2_resume_4 rfl (lv_at hl 1 rfl) ?_
  refine z_il X hS a2_48 hw dX2_resume_5 (fun hw => ?_)
  refine z_zlt (tgt := 45) hx hb (hM 48 a1) hw dX2_resume_6 (by decide) (fun hc hw => ?_) (fun hc hw => ?_)
  · exact m2_resume_J45 X hM hS (lv_sub hl [0, 1] rfl) r1 hw
  · refine lv_aload_n hx hb dX2_resume_9 rfl (lv_at hl 0 rfl) ?_
    refine lv_aload_n hx hb dX2_resume_10 rfl (lv_at hl 0 rfl) ?_
    refine r_ga X hS f2_48 dX2_resume_11 ?_
    refine lv_iload_n hx hb dX2_resume_14 rfl (lv_at hl 1 rfl) ?_
    refine z_il X hS a2_48 hw dX2_resume_15 (fun hw => ?_)
    refine lv_iload_n hx hb dX2_resume_16 rfl (lv_at hl 2 rfl) ?_
    refine z_callI X hS (m2_handle (hM 48 a1) r2 hM hw) gv2_200 hy2_handle rfl (by omega) (by decide) (sbs_sub rfl) hl.1 (Nat.le_of_ble_eq_true rfl) dX2_resume_17 rfl (fun x9 V11 Z14 h10 hM12 hw P13 H locs c1 s1 hP hS => ?_)
    obtain ⟨rfl, hw⟩ := hw
    refine lv_istore_n (lv' := [(3, .int (I3 x9)), (0, .ref h0), (1, .int (I3 a1)), (2, .int (I3 a2))]) hx hb dX2_resume_20 rfl hl (by decide) rfl (fun ls hl => ?_)
    refine lv_aload_n hx hb dX2_resume_21 rfl (lv_at hl 1 rfl) ?_
    refine z_gi X hS f2_51 dX2_resume_22 ?_
    refine z_zeq (tgt := 45) hx hb (hM12 51 0) hw dX2_resume_25 (by decide) (fun hc hw => ?_) (fun hc hw => ?_)
    · exact m2_resume_J45 X hM12 hS (lv_sub hl [1, 2] rfl) r1 hw
    · refine lv_aload_n hx hb dX2_resume_28 rfl (lv_at hl 1 rfl) ?_
      refine z_iconst hx hb dX2_resume_29 ?_
      refine z_pz X hS hM12 f2_51 p2_51 (⟨by decide, by decide⟩) hw dX2_resume_30 (fun V15 hM16 hw H locs hS => ?_)
      refine lv_aload_n hx hb dX2_resume_33 rfl (lv_at hl 1 rfl) ?_
      refine lv_aload_n hx hb dX2_resume_34 rfl (lv_at hl 1 rfl) ?_
      refine r_ga X hS f2_46 dX2_resume_35 ?_
      refine lv_iload_n hx hb dX2_resume_38 rfl (lv_at hl 2 rfl) ?_
      refine z_il X hS a2_46 hw dX2_resume_39 (fun hw => ?_)
      refine lv_iload_n hx hb dX2_resume_40 rfl (lv_at hl 0 rfl) ?_
      refine z_callV X hS (m2_reject (hM16 46 a1) h10 hM16 hw) gv2_197 hy2_reject rfl (by omega) (by decide) (sbs_sub rfl) hl.1 (Nat.le_of_ble_eq_true rfl) dX2_resume_41 rfl (fun x17 V19 Z22 h18 hM20 hw P21 H locs c1 s1 hP hS => ?_)
      obtain ⟨rfl, hw⟩ := hw
      exact z_rv X hS hM20 ⟨rfl, hw⟩ dX2_resume_44
end WALK
