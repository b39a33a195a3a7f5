set_option maxRecDepth 100000
theorem dX2_async_0 : decode cX2_async 0 = .ok (.aload_n 0, 1) := by decide +kernel
theorem dX2_async_1 : decode cX2_async 1 = .ok (.iconst 0, 1) := by decide +kernel
theorem dX2_async_2 : decode cX2_async 2 = .ok (.putfield 131, 3) := by decide +kernel
theorem dX2_async_5 : decode cX2_async 5 = .ok (.aload_n 0, 1) := by decide +kernel
theorem dX2_async_6 : decode cX2_async 6 = .ok (.iload_n 1, 1) := by decide +kernel
theorem dX2_async_7 : decode cX2_async 7 = .ok (.invokevirtual 260, 3) := by decide +kernel
theorem dX2_async_10 : decode cX2_async 10 = .ok (.ifCond .eq 16, 3) := by decide +kernel
theorem dX2_async_13 : decode cX2_async 13 = .ok (.iload_n 2, 1) := by decide +kernel
theorem dX2_async_14 : decode cX2_async 14 = .ok (.iconst (-1), 1) := by decide +kernel
theorem dX2_async_15 : decode cX2_async 15 = .ok (.if_icmp .eq 17, 3) := by decide +kernel
theorem dX2_async_18 : decode cX2_async 18 = .ok (.aload_n 0, 1) := by decide +kernel
theorem dX2_async_19 : decode cX2_async 19 = .ok (.iload_n 2, 1) := by decide +kernel
theorem dX2_async_20 : decode cX2_async 20 = .ok (.invokevirtual 266, 3) := by decide +kernel
theorem dX2_async_23 : decode cX2_async 23 = .ok (.ifCond .ne 9, 3) := by decide +kernel
theorem dX2_async_26 : decode cX2_async 26 = .ok (.aload_n 0, 1) := by decide +kernel
theorem dX2_async_27 : decode cX2_async 27 = .ok (.iconst 1, 1) := by decide +kernel
theorem dX2_async_28 : decode cX2_async 28 = .ok (.invokevirtual 257, 3) := by decide +kernel
theorem dX2_async_31 : decode cX2_async 31 = .ok (.ireturn, 1) := by decide +kernel
theorem dX2_async_32 : decode cX2_async 32 = .ok (.aload_n 0, 1) := by decide +kernel
theorem dX2_async_33 : decode cX2_async 33 = .ok (.bipush 8, 2) := by decide +kernel
theorem dX2_async_35 : decode cX2_async 35 = .ok (.invokevirtual 254, 3) := by decide +kernel
theorem dX2_async_38 : decode cX2_async 38 = .ok (.ifCond .eq 9, 3) := by decide +kernel
theorem dX2_async_41 : decode cX2_async 41 = .ok (.aload_n 0, 1) := by decide +kernel
theorem dX2_async_42 : decode cX2_async 42 = .ok (.iconst 2, 1) := by decide +kernel
theorem dX2_async_43 : decode cX2_async 43 = .ok (.invokevirtual 257, 3) := by decide +kernel
theorem dX2_async_46 : decode cX2_async 46 = .ok (.ireturn, 1) := by decide +kernel
theorem dX2_async_47 : decode cX2_async 47 = .ok (.aload_n 0, 1) := by decide +kernel
theorem dX2_async_48 : decode cX2_async 48 = .ok (.invokevirtual 171, 3) := by decide +kernel
theorem dX2_async_51 : decode cX2_async 51 = .ok (.istore_n 3, 1) := by decide +kernel
theorem dX2_async_52 : decode cX2_async 52 = .ok (.aload_n 0, 1) := by decide +kernel
theorem dX2_async_53 : decode cX2_async 53 = .ok (.invokevirtual 269, 3) := by decide +kernel
theorem dX2_async_56 : decode cX2_async 56 = .ok (.istore 4, 2) := by decide +kernel
theorem dX2_async_58 : decode cX2_async 58 = .ok (.aload_n 0, 1) := by decide +kernel
theorem dX2_async_59 : decode cX2_async 59 = .ok (.getfield 119, 3) := by decide +kernel
theorem dX2_async_62 : decode cX2_async 62 = .ok (.iload 4, 2) := by decide +kernel
theorem dX2_async_64 : decode cX2_async 64 = .ok (.iload_n 3, 1) := by decide +kernel
theorem dX2_async_65 : decode cX2_async 65 = .ok (.iastore, 1) := by decide +kernel
theorem dX2_async_66 : decode cX2_async 66 = .ok (.aload_n 0, 1) := by decide +kernel
theorem dX2_async_67 : decode cX2_async 67 = .ok (.getfield 128, 3) := by decide +kernel
theorem dX2_async_70 : decode cX2_async 70 = .ok (.iload 4, 2) := by decide +kernel
theorem dX2_async_72 : decode cX2_async 72 = .ok (.iconst 0, 1) := by decide +kernel
theorem dX2_async_73 : decode cX2_async 73 = .ok (.iastore, 1) := by decide +kernel
theorem dX2_async_74 : decode cX2_async 74 = .ok (.aload_n 0, 1) := by decide +kernel
theorem dX2_async_75 : decode cX2_async 75 = .ok (.getfield 122, 3) := by decide +kernel
theorem dX2_async_78 : decode cX2_async 78 = .ok (.iload 4, 2) := by decide +kernel
theorem dX2_async_80 : decode cX2_async 80 = .ok (.iload_n 1, 1) := by decide +kernel
theorem dX2_async_81 : decode cX2_async 81 = .ok (.iastore, 1) := by decide +kernel
theorem dX2_async_82 : decode cX2_async 82 = .ok (.aload_n 0, 1) := by decide +kernel
theorem dX2_async_83 : decode cX2_async 83 = .ok (.getfield 125, 3) := by decide +kernel
theorem dX2_async_86 : decode cX2_async 86 = .ok (.iload 4, 2) := by decide +kernel
theorem dX2_async_88 : decode cX2_async 88 = .ok (.iload_n 2, 1) := by decide +kernel
theorem dX2_async_89 : decode cX2_async 89 = .ok (.iastore, 1) := by decide +kernel
theorem dX2_async_90 : decode cX2_async 90 = .ok (.aload_n 0, 1) := by decide +kernel
theorem dX2_async_91 : decode cX2_async 91 = .ok (.iload 4, 2) := by decide +kernel
theorem dX2_async_93 : decode cX2_async 93 = .ok (.invokevirtual 244, 3) := by decide +kernel
theorem dX2_async_96 : decode cX2_async 96 = .ok (.aload_n 0, 1) := by decide +kernel
theorem dX2_async_97 : decode cX2_async 97 = .ok (.getfield 44, 3) := by decide +kernel
theorem dX2_async_100 : decode cX2_async 100 = .ok (.iload_n 3, 1) := by decide +kernel
theorem dX2_async_101 : decode cX2_async 101 = .ok (.iaload, 1) := by decide +kernel
theorem dX2_async_102 : decode cX2_async 102 = .ok (.invokestatic 155, 3) := by decide +kernel
theorem dX2_async_105 : decode cX2_async 105 = .ok (.ireturn, 1) := by decide +kernel
theorem dX2_jobs_0 : decode cX2_jobs 0 = .ok (.aload_n 0, 1) := by decide +kernel
theorem dX2_jobs_1 : decode cX2_jobs 1 = .ok (.iconst 0, 1) := by decide +kernel
theorem dX2_jobs_2 : decode cX2_jobs 2 = .ok (.putfield 131, 3) := by decide +kernel
theorem dX2_jobs_5 : decode cX2_jobs 5 = .ok (.iconst 0, 1) := by decide +kernel
theorem dX2_jobs_6 : decode cX2_jobs 6 = .ok (.istore_n 2, 1) := by decide +kernel
theorem dX2_jobs_7 : decode cX2_jobs 7 = .ok (.iload_n 2, 1) := by decide +kernel
theorem dX2_jobs_8 : decode cX2_jobs 8 = .ok (.iload_n 1, 1) := by decide +kernel
theorem dX2_jobs_9 : decode cX2_jobs 9 = .ok (.if_icmp .ge 49, 3) := by decide +kernel
theorem dX2_jobs_12 : decode cX2_jobs 12 = .ok (.aload_n 0, 1) := by decide +kernel
theorem dX2_jobs_13 : decode cX2_jobs 13 = .ok (.getfield 231, 3) := by decide +kernel
theorem dX2_jobs_16 : decode cX2_jobs 16 = .ok (.aload_n 0, 1) := by decide +kernel
theorem dX2_jobs_17 : decode cX2_jobs 17 = .ok (.getfield 162, 3) := by decide +kernel
theorem dX2_jobs_20 : decode cX2_jobs 20 = .ok (.if_icmp .ge 38, 3) := by decide +kernel
theorem dX2_jobs_23 : decode cX2_jobs 23 = .ok (.aload_n 0, 1) := by decide +kernel
theorem dX2_jobs_24 : decode cX2_jobs 24 = .ok (.bipush 8, 2) := by decide +kernel
theorem dX2_jobs_26 : decode cX2_jobs 26 = .ok (.invokevirtual 254, 3) := by decide +kernel
theorem dX2_jobs_29 : decode cX2_jobs 29 = .ok (.ifCond .ne 13, 3) := by decide +kernel
theorem dX2_jobs_32 : decode cX2_jobs 32 = .ok (.aload_n 0, 1) := by decide +kernel
theorem dX2_jobs_33 : decode cX2_jobs 33 = .ok (.getfield 187, 3) := by decide +kernel
theorem dX2_jobs_36 : decode cX2_jobs 36 = .ok (.sipush 4000, 3) := by decide +kernel
theorem dX2_jobs_39 : decode cX2_jobs 39 = .ok (.if_icmp .lt 9, 3) := by decide +kernel
theorem dX2_jobs_42 : decode cX2_jobs 42 = .ok (.aload_n 0, 1) := by decide +kernel
theorem dX2_jobs_43 : decode cX2_jobs 43 = .ok (.iconst 1, 1) := by decide +kernel
theorem dX2_jobs_44 : decode cX2_jobs 44 = .ok (.invokevirtual 257, 3) := by decide +kernel
theorem dX2_jobs_47 : decode cX2_jobs 47 = .ok (.ireturn, 1) := by decide +kernel
theorem dX2_jobs_48 : decode cX2_jobs 48 = .ok (.aload_n 0, 1) := by decide +kernel
theorem dX2_jobs_49 : decode cX2_jobs 49 = .ok (.invokevirtual 272, 3) := by decide +kernel
theorem dX2_jobs_52 : decode cX2_jobs 52 = .ok (.iinc 2 1, 3) := by decide +kernel
theorem dX2_jobs_55 : decode cX2_jobs 55 = .ok (.goto (-48), 3) := by decide +kernel
theorem dX2_jobs_58 : decode cX2_jobs 58 = .ok (.iload_n 2, 1) := by decide +kernel
theorem dX2_jobs_59 : decode cX2_jobs 59 = .ok (.ireturn, 1) := by decide +kernel
theorem dX2_state_0 : decode cX2_state 0 = .ok (.aload_n 0, 1) := by decide +kernel
theorem dX2_state_1 : decode cX2_state 1 = .ok (.iconst 0, 1) := by decide +kernel
theorem dX2_state_2 : decode cX2_state 2 = .ok (.putfield 131, 3) := by decide +kernel
theorem dX2_state_5 : decode cX2_state 5 = .ok (.aload_n 0, 1) := by decide +kernel
theorem dX2_state_6 : decode cX2_state 6 = .ok (.iload_n 1, 1) := by decide +kernel
theorem dX2_state_7 : decode cX2_state 7 = .ok (.iconst 0, 1) := by decide +kernel
theorem dX2_state_8 : decode cX2_state 8 = .ok (.invokevirtual 179, 3) := by decide +kernel
theorem dX2_state_11 : decode cX2_state 11 = .ok (.ifCond .ne 9, 3) := by decide +kernel
theorem dX2_state_14 : decode cX2_state 14 = .ok (.aload_n 0, 1) := by decide +kernel
theorem dX2_state_15 : decode cX2_state 15 = .ok (.iconst 1, 1) := by decide +kernel
theorem dX2_state_16 : decode cX2_state 16 = .ok (.invokevirtual 257, 3) := by decide +kernel
theorem dX2_state_19 : decode cX2_state 19 = .ok (.ireturn, 1) := by decide +kernel
theorem dX2_state_20 : decode cX2_state 20 = .ok (.aload_n 0, 1) := by decide +kernel
theorem dX2_state_21 : decode cX2_state 21 = .ok (.getfield 13, 3) := by decide +kernel
theorem dX2_state_24 : decode cX2_state 24 = .ok (.bipush (-2), 2) := by decide +kernel
theorem dX2_state_26 : decode cX2_state 26 = .ok (.iload_n 1, 1) := by decide +kernel
theorem dX2_state_27 : decode cX2_state 27 = .ok (.isub, 1) := by decide +kernel
theorem dX2_state_28 : decode cX2_state 28 = .ok (.iaload, 1) := by decide +kernel
theorem dX2_state_29 : decode cX2_state 29 = .ok (.aload_n 0, 1) := by decide +kernel
theorem dX2_state_30 : decode cX2_state 30 = .ok (.getfield 25, 3) := by decide +kernel
theorem dX2_state_33 : decode cX2_state 33 = .ok (.bipush (-2), 2) := by decide +kernel
theorem dX2_state_35 : decode cX2_state 35 = .ok (.iload_n 1, 1) := by decide +kernel
theorem dX2_state_36 : decode cX2_state 36 = .ok (.isub, 1) := by decide +kernel
theorem dX2_state_37 : decode cX2_state 37 = .ok (.baload, 1) := by decide +kernel
theorem dX2_state_38 : decode cX2_state 38 = .ok (.ifCond .eq 7, 3) := by decide +kernel
theorem dX2_state_41 : decode cX2_state 41 = .ok (.iconst 4, 1) := by decide +kernel
theorem dX2_state_42 : decode cX2_state 42 = .ok (.goto 4, 3) := by decide +kernel
theorem dX2_state_45 : decode cX2_state 45 = .ok (.iconst 0, 1) := by decide +kernel
theorem dX2_state_46 : decode cX2_state 46 = .ok (.iadd, 1) := by decide +kernel
theorem dX2_state_47 : decode cX2_state 47 = .ok (.ireturn, 1) := by decide +kernel
theorem dX2_result_0 : decode cX2_result 0 = .ok (.aload_n 0, 1) := by decide +kernel
theorem dX2_result_1 : decode cX2_result 1 = .ok (.iconst 0, 1) := by decide +kernel
theorem dX2_result_2 : decode cX2_result 2 = .ok (.putfield 131, 3) := by decide +kernel
theorem dX2_result_5 : decode cX2_result 5 = .ok (.aload_n 0, 1) := by decide +kernel
theorem dX2_result_6 : decode cX2_result 6 = .ok (.iload_n 1, 1) := by decide +kernel
theorem dX2_result_7 : decode cX2_result 7 = .ok (.iconst 0, 1) := by decide +kernel
theorem dX2_result_8 : decode cX2_result 8 = .ok (.invokevirtual 179, 3) := by decide +kernel
theorem dX2_result_11 : decode cX2_result 11 = .ok (.ifCond .eq 15, 3) := by decide +kernel
theorem dX2_result_14 : decode cX2_result 14 = .ok (.aload_n 0, 1) := by decide +kernel
theorem dX2_result_15 : decode cX2_result 15 = .ok (.getfield 16, 3) := by decide +kernel
theorem dX2_result_18 : decode cX2_result 18 = .ok (.bipush (-2), 2) := by decide +kernel
theorem dX2_result_20 : decode cX2_result 20 = .ok (.iload_n 1, 1) := by decide +kernel
theorem dX2_result_21 : decode cX2_result 21 = .ok (.isub, 1) := by decide +kernel
theorem dX2_result_22 : decode cX2_result 22 = .ok (.iaload, 1) := by decide +kernel
theorem dX2_result_23 : decode cX2_result 23 = .ok (.goto 8, 3) := by decide +kernel
theorem dX2_result_26 : decode cX2_result 26 = .ok (.aload_n 0, 1) := by decide +kernel
theorem dX2_result_27 : decode cX2_result 27 = .ok (.iconst 1, 1) := by decide +kernel
theorem dX2_result_28 : decode cX2_result 28 = .ok (.invokevirtual 257, 3) := by decide +kernel
theorem dX2_result_31 : decode cX2_result 31 = .ok (.ireturn, 1) := by decide +kernel
theorem dX2_kind_0 : decode cX2_kind 0 = .ok (.aload_n 0, 1) := by decide +kernel
theorem dX2_kind_1 : decode cX2_kind 1 = .ok (.iconst 0, 1) := by decide +kernel
theorem dX2_kind_2 : decode cX2_kind 2 = .ok (.putfield 131, 3) := by decide +kernel
theorem dX2_kind_5 : decode cX2_kind 5 = .ok (.aload_n 0, 1) := by decide +kernel
theorem dX2_kind_6 : decode cX2_kind 6 = .ok (.iload_n 1, 1) := by decide +kernel
theorem dX2_kind_7 : decode cX2_kind 7 = .ok (.invokevirtual 138, 3) := by decide +kernel
theorem dX2_kind_10 : decode cX2_kind 10 = .ok (.ifCond .eq 15, 3) := by decide +kernel
theorem dX2_kind_13 : decode cX2_kind 13 = .ok (.aload_n 0, 1) := by decide +kernel
theorem dX2_kind_14 : decode cX2_kind 14 = .ok (.getfield 7, 3) := by decide +kernel
theorem dX2_kind_17 : decode cX2_kind 17 = .ok (.bipush (-2), 2) := by decide +kernel
theorem dX2_kind_19 : decode cX2_kind 19 = .ok (.iload_n 1, 1) := by decide +kernel
theorem dX2_kind_20 : decode cX2_kind 20 = .ok (.isub, 1) := by decide +kernel
theorem dX2_kind_21 : decode cX2_kind 21 = .ok (.iaload, 1) := by decide +kernel
theorem dX2_kind_22 : decode cX2_kind 22 = .ok (.goto 8, 3) := by decide +kernel
theorem dX2_kind_25 : decode cX2_kind 25 = .ok (.aload_n 0, 1) := by decide +kernel
theorem dX2_kind_26 : decode cX2_kind 26 = .ok (.iconst 1, 1) := by decide +kernel
theorem dX2_kind_27 : decode cX2_kind 27 = .ok (.invokevirtual 257, 3) := by decide +kernel
theorem dX2_kind_30 : decode cX2_kind 30 = .ok (.ireturn, 1) := by decide +kernel
theorem dX2_part_0 : decode cX2_part 0 = .ok (.aload_n 0, 1) := by decide +kernel
theorem dX2_part_1 : decode cX2_part 1 = .ok (.iconst 0, 1) := by decide +kernel
theorem dX2_part_2 : decode cX2_part 2 = .ok (.putfield 131, 3) := by decide +kernel
theorem dX2_part_5 : decode cX2_part 5 = .ok (.aload_n 0, 1) := by decide +kernel
theorem dX2_part_6 : decode cX2_part 6 = .ok (.iload_n 1, 1) := by decide +kernel
theorem dX2_part_7 : decode cX2_part 7 = .ok (.invokevirtual 138, 3) := by decide +kernel
theorem dX2_part_10 : decode cX2_part 10 = .ok (.ifCond .ne 9, 3) := by decide +kernel
theorem dX2_part_13 : decode cX2_part 13 = .ok (.aload_n 0, 1) := by decide +kernel
theorem dX2_part_14 : decode cX2_part 14 = .ok (.iconst 1, 1) := by decide +kernel
theorem dX2_part_15 : decode cX2_part 15 = .ok (.invokevirtual 257, 3) := by decide +kernel
theorem dX2_part_18 : decode cX2_part 18 = .ok (.ireturn, 1) := by decide +kernel
theorem dX2_part_19 : decode cX2_part 19 = .ok (.bipush (-2), 2) := by decide +kernel
theorem dX2_part_21 : decode cX2_part 21 = .ok (.iload_n 1, 1) := by decide +kernel
theorem dX2_part_22 : decode cX2_part 22 = .ok (.isub, 1) := by decide +kernel
theorem dX2_part_23 : decode cX2_part 23 = .ok (.istore_n 3, 1) := by decide +kernel
theorem dX2_part_24 : decode cX2_part 24 = .ok (.aload_n 0, 1) := by decide +kernel
theorem dX2_part_25 : decode cX2_part 25 = .ok (.getfield 7, 3) := by decide +kernel
theorem dX2_part_28 : decode cX2_part 28 = .ok (.iload_n 3, 1) := by decide +kernel
theorem dX2_part_29 : decode cX2_part 29 = .ok (.iaload, 1) := by decide +kernel
theorem dX2_part_30 : decode cX2_part 30 = .ok (.iconst 5, 1) := by decide +kernel
theorem dX2_part_31 : decode cX2_part 31 = .ok (.if_icmp .ne 45, 3) := by decide +kernel
theorem dX2_part_34 : decode cX2_part 34 = .ok (.iload_n 2, 1) := by decide +kernel
theorem dX2_part_35 : decode cX2_part 35 = .ok (.iconst (-1), 1) := by decide +kernel
theorem dX2_part_36 : decode cX2_part 36 = .ok (.if_icmp .ne 7, 3) := by decide +kernel
theorem dX2_part_39 : decode cX2_part 39 = .ok (.iconst 2, 1) := by decide +kernel
theorem dX2_part_40 : decode cX2_part 40 = .ok (.goto 35, 3) := by decide +kernel
theorem dX2_part_43 : decode cX2_part 43 = .ok (.iload_n 2, 1) := by decide +kernel
theorem dX2_part_44 : decode cX2_part 44 = .ok (.ifCond .ne 12, 3) := by decide +kernel
theorem dX2_part_47 : decode cX2_part 47 = .ok (.aload_n 0, 1) := by decide +kernel
theorem dX2_part_48 : decode cX2_part 48 = .ok (.getfield 29, 3) := by decide +kernel
theorem dX2_part_51 : decode cX2_part 51 = .ok (.iload_n 3, 1) := by decide +kernel
theorem dX2_part_52 : decode cX2_part 52 = .ok (.iaload, 1) := by decide +kernel
theorem dX2_part_53 : decode cX2_part 53 = .ok (.goto 22, 3) := by decide +kernel
theorem dX2_part_56 : decode cX2_part 56 = .ok (.iload_n 2, 1) := by decide +kernel
theorem dX2_part_57 : decode cX2_part 57 = .ok (.iconst 1, 1) := by decide +kernel
theorem dX2_part_58 : decode cX2_part 58 = .ok (.if_icmp .ne 12, 3) := by decide +kernel
theorem dX2_part_61 : decode cX2_part 61 = .ok (.aload_n 0, 1) := by decide +kernel
theorem dX2_part_62 : decode cX2_part 62 = .ok (.getfield 32, 3) := by decide +kernel
theorem dX2_part_65 : decode cX2_part 65 = .ok (.iload_n 3, 1) := by decide +kernel
theorem dX2_part_66 : decode cX2_part 66 = .ok (.iaload, 1) := by decide +kernel
theorem dX2_part_67 : decode cX2_part 67 = .ok (.goto 8, 3) := by decide +kernel
theorem dX2_part_70 : decode cX2_part 70 = .ok (.aload_n 0, 1) := by decide +kernel
theorem dX2_part_71 : decode cX2_part 71 = .ok (.iconst 1, 1) := by decide +kernel
theorem dX2_part_72 : decode cX2_part 72 = .ok (.invokevirtual 257, 3) := by decide +kernel
theorem dX2_part_75 : decode cX2_part 75 = .ok (.ireturn, 1) := by decide +kernel
theorem dX2_part_76 : decode cX2_part 76 = .ok (.aload_n 0, 1) := by decide +kernel
theorem dX2_part_77 : decode cX2_part 77 = .ok (.getfield 7, 3) := by decide +kernel
theorem dX2_part_80 : decode cX2_part 80 = .ok (.iload_n 3, 1) := by decide +kernel
theorem dX2_part_81 : decode cX2_part 81 = .ok (.iaload, 1) := by decide +kernel
theorem dX2_part_82 : decode cX2_part 82 = .ok (.iconst 4, 1) := by decide +kernel
theorem dX2_part_83 : decode cX2_part 83 = .ok (.if_icmp .eq 13, 3) := by decide +kernel
theorem dX2_part_86 : decode cX2_part 86 = .ok (.aload_n 0, 1) := by decide +kernel
theorem dX2_part_87 : decode cX2_part 87 = .ok (.getfield 7, 3) := by decide +kernel
theorem dX2_part_90 : decode cX2_part 90 = .ok (.iload_n 3, 1) := by decide +kernel
theorem dX2_part_91 : decode cX2_part 91 = .ok (.iaload, 1) := by decide +kernel
theorem dX2_part_92 : decode cX2_part 92 = .ok (.iconst 3, 1) := by decide +kernel
theorem dX2_part_93 : decode cX2_part 93 = .ok (.if_icmp .ne 18, 3) := by decide +kernel
theorem dX2_part_96 : decode cX2_part 96 = .ok (.iload_n 2, 1) := by decide +kernel
theorem dX2_part_97 : decode cX2_part 97 = .ok (.iconst (-1), 1) := by decide +kernel
theorem dX2_part_98 : decode cX2_part 98 = .ok (.if_icmp .lt 13, 3) := by decide +kernel
theorem dX2_part_101 : decode cX2_part 101 = .ok (.iload_n 2, 1) := by decide +kernel
theorem dX2_part_102 : decode cX2_part 102 = .ok (.aload_n 0, 1) := by decide +kernel
theorem dX2_part_103 : decode cX2_part 103 = .ok (.getfield 32, 3) := by decide +kernel
theorem dX2_part_106 : decode cX2_part 106 = .ok (.iload_n 3, 1) := by decide +kernel
theorem dX2_part_107 : decode cX2_part 107 = .ok (.iaload, 1) := by decide +kernel
theorem dX2_part_108 : decode cX2_part 108 = .ok (.if_icmp .lt 9, 3) := by decide +kernel
theorem dX2_part_111 : decode cX2_part 111 = .ok (.aload_n 0, 1) := by decide +kernel
theorem dX2_part_112 : decode cX2_part 112 = .ok (.iconst 1, 1) := by decide +kernel
theorem dX2_part_113 : decode cX2_part 113 = .ok (.invokevirtual 257, 3) := by decide +kernel
theorem dX2_part_116 : decode cX2_part 116 = .ok (.ireturn, 1) := by decide +kernel
theorem dX2_part_117 : decode cX2_part 117 = .ok (.iload_n 2, 1) := by decide +kernel
theorem dX2_part_118 : decode cX2_part 118 = .ok (.iconst (-1), 1) := by decide +kernel
theorem dX2_part_119 : decode cX2_part 119 = .ok (.if_icmp .ne 12, 3) := by decide +kernel
theorem dX2_part_122 : decode cX2_part 122 = .ok (.aload_n 0, 1) := by decide +kernel
theorem dX2_part_123 : decode cX2_part 123 = .ok (.getfield 32, 3) := by decide +kernel
theorem dX2_part_126 : decode cX2_part 126 = .ok (.iload_n 3, 1) := by decide +kernel
theorem dX2_part_127 : decode cX2_part 127 = .ok (.iaload, 1) := by decide +kernel
theorem dX2_part_128 : decode cX2_part 128 = .ok (.goto 16, 3) := by decide +kernel
theorem dX2_part_131 : decode cX2_part 131 = .ok (.aload_n 0, 1) := by decide +kernel
theorem dX2_part_132 : decode cX2_part 132 = .ok (.getfield 101, 3) := by decide +kernel
theorem dX2_part_135 : decode cX2_part 135 = .ok (.aload_n 0, 1) := by decide +kernel
theorem dX2_part_136 : decode cX2_part 136 = .ok (.getfield 29, 3) := by decide +kernel
theorem dX2_part_139 : decode cX2_part 139 = .ok (.iload_n 3, 1) := by decide +kernel
theorem dX2_part_140 : decode cX2_part 140 = .ok (.iaload, 1) := by decide +kernel
theorem dX2_part_141 : decode cX2_part 141 = .ok (.iload_n 2, 1) := by decide +kernel
theorem dX2_part_142 : decode cX2_part 142 = .ok (.iadd, 1) := by decide +kernel
theorem dX2_part_143 : decode cX2_part 143 = .ok (.iaload, 1) := by decide +kernel
theorem dX2_part_144 : decode cX2_part 144 = .ok (.ireturn, 1) := by decide +kernel
theorem dX2_log_0 : decode cX2_log 0 = .ok (.aload_n 0, 1) := by decide +kernel
theorem dX2_log_1 : decode cX2_log 1 = .ok (.iconst 0, 1) := by decide +kernel
theorem dX2_log_2 : decode cX2_log 2 = .ok (.putfield 131, 3) := by decide +kernel
theorem dX2_log_5 : decode cX2_log 5 = .ok (.iload_n 1, 1) := by decide +kernel
theorem dX2_log_6 : decode cX2_log 6 = .ok (.ifCond .lt 11, 3) := by decide +kernel
theorem dX2_log_9 : decode cX2_log 9 = .ok (.iload_n 1, 1) := by decide +kernel
theorem dX2_log_10 : decode cX2_log 10 = .ok (.aload_n 0, 1) := by decide +kernel
theorem dX2_log_11 : decode cX2_log 11 = .ok (.getfield 187, 3) := by decide +kernel
theorem dX2_log_14 : decode cX2_log 14 = .ok (.if_icmp .lt 7, 3) := by decide +kernel
theorem dX2_log_17 : decode cX2_log 17 = .ok (.ldc_w 275, 3) := by decide +kernel
theorem dX2_log_20 : decode cX2_log 20 = .ok (.ireturn, 1) := by decide +kernel
theorem dX2_log_21 : decode cX2_log 21 = .ok (.iload_n 2, 1) := by decide +kernel
theorem dX2_log_22 : decode cX2_log 22 = .ok (.ifCond .eq 12, 3) := by decide +kernel
theorem dX2_log_25 : decode cX2_log 25 = .ok (.aload_n 0, 1) := by decide +kernel
theorem dX2_log_26 : decode cX2_log 26 = .ok (.getfield 95, 3) := by decide +kernel
theorem dX2_log_29 : decode cX2_log 29 = .ok (.iload_n 1, 1) := by decide +kernel
theorem dX2_log_30 : decode cX2_log 30 = .ok (.iaload, 1) := by decide +kernel
theorem dX2_log_31 : decode cX2_log 31 = .ok (.goto 9, 3) := by decide +kernel
theorem dX2_log_34 : decode cX2_log 34 = .ok (.aload_n 0, 1) := by decide +kernel
theorem dX2_log_35 : decode cX2_log 35 = .ok (.getfield 92, 3) := by decide +kernel
theorem dX2_log_38 : decode cX2_log 38 = .ok (.iload_n 1, 1) := by decide +kernel
theorem dX2_log_39 : decode cX2_log 39 = .ok (.iaload, 1) := by decide +kernel
theorem dX2_log_40 : decode cX2_log 40 = .ok (.ireturn, 1) := by decide +kernel
theorem dX2_count_0 : decode cX2_count 0 = .ok (.aload_n 0, 1) := by decide +kernel
theorem dX2_count_1 : decode cX2_count 1 = .ok (.iconst 0, 1) := by decide +kernel
theorem dX2_count_2 : decode cX2_count 2 = .ok (.putfield 131, 3) := by decide +kernel
theorem dX2_count_5 : decode cX2_count 5 = .ok (.iload_n 1, 1) := by decide +kernel
theorem dX2_count_6 : decode cX2_count 6 = .ok (.tableswitch 64 0 4 #[34, 39, 49, 54, 59], 34) := by decide +kernel
theorem dX2_count_40 : decode cX2_count 40 = .ok (.aload_n 0, 1) := by decide +kernel
theorem dX2_count_41 : decode cX2_count 41 = .ok (.getfield 135, 3) := by decide +kernel
theorem dX2_count_44 : decode cX2_count 44 = .ok (.ireturn, 1) := by decide +kernel
theorem dX2_count_45 : decode cX2_count 45 = .ok (.aload_n 0, 1) := by decide +kernel
theorem dX2_count_46 : decode cX2_count 46 = .ok (.getfield 162, 3) := by decide +kernel
theorem dX2_count_49 : decode cX2_count 49 = .ok (.aload_n 0, 1) := by decide +kernel
theorem dX2_count_50 : decode cX2_count 50 = .ok (.getfield 231, 3) := by decide +kernel
theorem dX2_count_53 : decode cX2_count 53 = .ok (.isub, 1) := by decide +kernel
theorem dX2_count_54 : decode cX2_count 54 = .ok (.ireturn, 1) := by decide +kernel
theorem dX2_count_55 : decode cX2_count 55 = .ok (.aload_n 0, 1) := by decide +kernel
theorem dX2_count_56 : decode cX2_count 56 = .ok (.getfield 187, 3) := by decide +kernel
theorem dX2_count_59 : decode cX2_count 59 = .ok (.ireturn, 1) := by decide +kernel
theorem dX2_count_60 : decode cX2_count 60 = .ok (.aload_n 0, 1) := by decide +kernel
theorem dX2_count_61 : decode cX2_count 61 = .ok (.getfield 251, 3) := by decide +kernel
theorem dX2_count_64 : decode cX2_count 64 = .ok (.ireturn, 1) := by decide +kernel
theorem dX2_count_65 : decode cX2_count 65 = .ok (.aload_n 0, 1) := by decide +kernel
theorem dX2_count_66 : decode cX2_count 66 = .ok (.getfield 142, 3) := by decide +kernel
theorem dX2_count_69 : decode cX2_count 69 = .ok (.ireturn, 1) := by decide +kernel
theorem dX2_count_70 : decode cX2_count 70 = .ok (.aload_n 0, 1) := by decide +kernel
theorem dX2_count_71 : decode cX2_count 71 = .ok (.iconst 1, 1) := by decide +kernel
theorem dX2_count_72 : decode cX2_count 72 = .ok (.invokevirtual 257, 3) := by decide +kernel
theorem dX2_count_75 : decode cX2_count 75 = .ok (.ireturn, 1) := by decide +kernel
section WALK
variable {p : Program} {l : Launch} {e : Env} {R : Room} {s : State} {m : MethodId} {args : Array Value} {below : List Frame} {meth : Method} {c : Code} {H : Heap} {locs : List Loc} {cells slots : Nat}
variable {E : Ev} {h0 : Nat} {P0 : Le} {kc0 ks0 : Nat} {S0 : State} {A : Nat → Prop} {P : Le} {ls : Array Slot}
theorem m2_async_J26 {V : Mv} {Q : Int → Mv → Prop} {PX : Px} (X : Cx E 1 h0 P0 kc0 ks0 S0 A p l R s m args meth c cX2_async 5 (some .int) 6) (hM : inM V) (hS : HS E 1 h0 P0 kc0 ks0 (sbs []) A s.heap P (toC V) ZM H locs cells slots) (hl : lv_has ls 5 [(0, .ref h0)]) (hw : w2_async_J26  V Q) : W p l e R s m args below meth c H locs cells slots (MQx below (QT E 1 h0 true P0 kc0 ks0 (sbs []) A (QL (fun x V1 Z1 => Z1 = ZM ∧ Q x V1)) (PL PX) s) s) (F0 m 26 ls []) := by
  have hx := X.2.1
  have hb := X.2.2.1
  unfold w2_async_J26 at hw
  refine lv_aload_n hx hb dX2_async_26 rfl (lv_at hl 0 rfl) ?_
  refine z_iconst hx hb dX2_async_27 ?_
  refine z_callI X hS (m2_fails (⟨by decide, by decide⟩) hM hw) gv2_257 hy2_fails rfl (by omega) (by decide) (sbs_sub rfl) hl.1 (Nat.le_of_ble_eq_true rfl) dX2_async_28 rfl (fun x1 V3 Z6 h2 hM4 hw P5 H locs c1 s1 hP hS => ?_)
  obtain ⟨rfl, hw⟩ := hw
  exact z_ri X hS hM4 h2 ⟨rfl, hw⟩ dX2_async_31
theorem m2_async_J32 {a1 : Int} {a2 : Int} {V : Mv} {Q : Int → Mv → Prop} {PX : Px} (X : Cx E 1 h0 P0 kc0 ks0 S0 A p l R s m args meth c cX2_async 5 (some .int) 6) (hM : inM V) (hS : HS E 1 h0 P0 kc0 ks0 (sbs []) A s.heap P (toC V) ZM H locs cells slots) (hl : lv_has ls 5 [(0, .ref h0), (1, .int (I3 a1)), (2, .int (I3 a2))]) (r1 : inR a1) (r2 : inR a2) (hw : w2_async_J32 a1 a2 V Q) : W p l e R s m args below meth c H locs cells slots (MQx below (QT E 1 h0 true P0 kc0 ks0 (sbs []) A (QL (fun x V1 Z1 => Z1 = ZM ∧ Q x V1)) (PL PX) s) s) (F0 m 32 ls []) := by
  have hx := X.2.1
  have hb := X.2.2.1
  unfold w2_async_J32 at hw
  refine lv_aload_n hx hb dX2_async_32 rfl (lv_at hl 0 rfl) ?_
  refine z_bipush hx hb dX2_async_33 (by decide +kernel) ?_
  refine z_callI X hS (m2_isFull (⟨by decide, by decide⟩) hM hw) gv2_254 hy2_isFull rfl (by omega) (by decide) (sbs_sub rfl) hl.1 (Nat.le_of_ble_eq_true rfl) dX2_async_35 rfl (fun x7 V9 Z12 h8 hM10 hw P11 H locs c1 s1 hP hS => ?_)
  obtain ⟨rfl, hw⟩ := hw
  refine z_zeq (tgt := 47) hx hb h8 hw dX2_async_38 (by decide) (fun hc hw => ?_) (fun hc hw => ?_)
  · refine lv_aload_n hx hb dX2_async_47 rfl (lv_at hl 0 rfl) ?_
    refine z_callI X hS (m2_capability  hM10 hw) gv2_171 hy2_capability rfl (by omega) (by decide) (sbs_sub rfl) hl.1 (Nat.le_of_ble_eq_true rfl) dX2_async_48 rfl (fun x13 V15 Z18 h14 hM16 hw P17 H locs c1 s1 hP hS => ?_)
    obtain ⟨rfl, hw⟩ := hw
    refine lv_istore_n (lv' := [(3, .int (I3 x13)), (0, .ref h0), (1, .int (I3 a1)), (2, .int (I3 a2))]) hx hb dX2_async_51 rfl hl (by decide) rfl (fun ls hl => ?_)
    refine lv_aload_n hx hb dX2_async_52 rfl (lv_at hl 1 rfl) ?_
    refine z_callI X hS (m2_group  hM16 hw) gv2_269 hy2_group rfl (by omega) (by decide) (sbs_sub rfl) hl.1 (Nat.le_of_ble_eq_true rfl) dX2_async_53 rfl (fun x19 V21 Z24 h20 hM22 hw P23 H locs c1 s1 hP hS => ?_)
    obtain ⟨rfl, hw⟩ := hw
    refine lv_istore (lv' := [(4, .int (I3 x19)), (3, .int (I3 x13)), (0, .ref h0), (1, .int (I3 a1)), (2, .int (I3 a2))]) hx hb dX2_async_56 hl (by decide) rfl (fun ls hl => ?_)
    refine lv_aload_n hx hb dX2_async_58 rfl (lv_at hl 2 rfl) ?_
    refine r_ga X hS f2_46 dX2_async_59 ?_
    refine lv_iload hx hb dX2_async_62 (lv_at hl 0 rfl) ?_
    refine lv_iload_n hx hb dX2_async_64 rfl (lv_at hl 1 rfl) ?_
    refine z_is X hS hM22 a2_46 h14 hw dX2_async_65 (fun V25 hM26 hw H locs hS => ?_)
    refine lv_aload_n hx hb dX2_async_66 rfl (lv_at hl 2 rfl) ?_
    refine r_ga X hS f2_49 dX2_async_67 ?_
    refine lv_iload hx hb dX2_async_70 (lv_at hl 0 rfl) ?_
    refine z_iconst hx hb dX2_async_72 ?_
    refine z_is X hS hM26 a2_49 (⟨by decide, by decide⟩) hw dX2_async_73 (fun V27 hM28 hw H locs hS => ?_)
    refine lv_aload_n hx hb dX2_async_74 rfl (lv_at hl 2 rfl) ?_
    refine r_ga X hS f2_47 dX2_async_75 ?_
    refine lv_iload hx hb dX2_async_78 (lv_at hl 0 rfl) ?_
    refine lv_iload_n hx hb dX2_async_80 rfl (lv_at hl 3 rfl) ?_
    refine z_is X hS hM28 a2_47 r1 hw dX2_async_81 (fun V29 hM30 hw H locs hS => ?_)
    refine lv_aload_n hx hb dX2_async_82 rfl (lv_at hl 2 rfl) ?_
    refine r_ga X hS f2_48 dX2_async_83 ?_
    refine lv_iload hx hb dX2_async_86 (lv_at hl 0 rfl) ?_
    refine lv_iload_n hx hb dX2_async_88 rfl (lv_at hl 4 rfl) ?_
    refine z_is X hS hM30 a2_48 r2 hw dX2_async_89 (fun V31 hM32 hw H locs hS => ?_)
    refine lv_aload_n hx hb dX2_async_90 rfl (lv_at hl 2 rfl) ?_
    refine lv_iload hx hb dX2_async_91 (lv_at hl 0 rfl) ?_
    refine z_callV X hS (m2_goOn h20 hM32 hw) gv2_244 hy2_goOn rfl (by omega) (by decide) (sbs_sub rfl) hl.1 (Nat.le_of_ble_eq_true rfl) dX2_async_93 rfl (fun x33 V35 Z38 h34 hM36 hw P37 H locs c1 s1 hP hS => ?_)
    obtain ⟨rfl, hw⟩ := hw
    refine lv_aload_n hx hb dX2_async_96 rfl (lv_at hl 2 rfl) ?_
    refine r_ga X hS f2_13 dX2_async_97 ?_
    refine lv_iload_n hx hb dX2_async_100 rfl (lv_at hl 1 rfl) ?_
    refine z_il X hS a2_13 hw dX2_async_101 (fun hw => ?_)
    refine z_vo2 X hS hw gs2_155 (by omega) hl.1 (Nat.le_of_ble_eq_true rfl) dX2_async_102 (fun h39 hw => ?_)
    exact z_ri X hS hM36 h39 ⟨rfl, hw⟩ dX2_async_105
  · refine lv_aload_n hx hb dX2_async_41 rfl (lv_at hl 0 rfl) ?_
    refine z_iconst hx hb dX2_async_42 ?_
    refine z_callI X hS (m2_fails (⟨by decide, by decide⟩) hM10 hw) gv2_257 hy2_fails rfl (by omega) (by decide) (sbs_sub rfl) hl.1 (Nat.le_of_ble_eq_true rfl) dX2_async_43 rfl (fun x40 V42 Z45 h41 hM43 hw P44 H locs c1 s1 hP hS => ?_)
    obtain ⟨rfl, hw⟩ := hw
    exact z_ri X hS hM43 h41 ⟨rfl, hw⟩ dX2_async_46
theorem m2_async {a1 : Int} {a2 : Int} {V : Mv} {Q : Int → Mv → Prop} {PX : Px} (r1 : inR a1) (r2 : inR a2) (hM : inM V) (hw : w2_async a1 a2 V Q) : MT l S0 E 1 h0 yX2_async cX2_async 5 (some .int) 6 true (sbs []) [.int (I3 a1), .int (I3 a2)] (toC V) ZM (QL (fun x V1 Z1 => Z1 = ZM ∧ Q x V1)) (PL PX) := by
  refine mt_of Gk1 (by decide) rfl (Nat.le_of_ble_eq_true rfl) ?_
  intro p e s m below meth c A P ls X hS hl
  have hl : lv_has ls 5 [(0, .ref h0), (1, .int (I3 a1)), (2, .int (I3 a2))] := hl
  have hx := X.2.1
  have hb := X.2.2.1
  unfold w2_async at hw
  refine lv_aload_n hx hb dX2_async_0 rfl (lv_at hl 0 rfl) ?_
  refine z_iconst hx hb dX2_async_1 ?_
  refine z_pi X hS hM f2_0 p2_0 (⟨by decide, by decide⟩) hw dX2_async_2 (fun V46 hM47 hw H locs hS => ?_)
  refine lv_aload_n hx hb dX2_async_5 rfl (lv_at hl 0 rfl) ?_
  refine lv_iload_n hx hb dX2_async_6 rfl (lv_at hl 1 rfl) ?_
  refine z_callI X hS (m2_isValue r1 hM47 hw) gv2_260 hy2_isValue rfl (by omega) (by decide) (sbs_sub rfl) hl.1 (Nat.le_of_ble_eq_true rfl) dX2_async_7 rfl (fun x48 V50 Z53 h49 hM51 hw P52 H locs c1 s1 hP hS => ?_)
  obtain ⟨rfl, hw⟩ := hw
  refine z_zeq (tgt := 26) hx hb h49 hw dX2_async_10 (by decide) (fun hc hw => ?_) (fun hc hw => ?_)
  · exact m2_async_J26 X hM51 hS (lv_sub hl [0] rfl)  hw
  · refine lv_iload_n hx hb dX2_async_13 rfl (lv_at hl 2 rfl) ?_
    refine z_iconst hx hb dX2_async_14 ?_
    refine z_ieq (tgt := 32) hx hb r2 (⟨by decide, by decide⟩) hw dX2_async_15 (by decide) (fun hc hw => ?_) (fun hc hw => ?_)
    · exact m2_async_J32 X hM51 hS (lv_sub hl [0, 1, 2] rfl) r1 r2 hw
    · refine lv_aload_n hx hb dX2_async_18 rfl (lv_at hl 0 rfl) ?_
      refine lv_iload_n hx hb dX2_async_19 rfl (lv_at hl 2 rfl) ?_
      refine z_callI X hS (m2_isHandler r2 hM51 hw) gv2_266 hy2_isHandler rfl (by omega) (by decide) (sbs_sub rfl) hl.1 (Nat.le_of_ble_eq_true rfl) dX2_async_20 rfl (fun x54 V56 Z59 h55 hM57 hw P58 H locs c1 s1 hP hS => ?_)
      obtain ⟨rfl, hw⟩ := hw
      refine z_zne (tgt := 32) hx hb h55 hw dX2_async_23 (by decide) (fun hc hw => ?_) (fun hc hw => ?_)
      · exact m2_async_J32 X hM57 hS (lv_sub hl [0, 1, 2] rfl) r1 r2 hw
      · exact m2_async_J26 X hM57 hS (lv_sub hl [0] rfl)  hw
theorem m2_jobs_J58 {a2 : Int} {V : Mv} {Q : Int → Mv → Prop} {PX : Px} (X : Cx E 1 h0 P0 kc0 ks0 S0 A p l R s m args meth c cX2_jobs 3 (some .int) 9) (hM : inM V) (hS : HS E 1 h0 P0 kc0 ks0 (sbs []) A s.heap P (toC V) ZM H locs cells slots) (hl : lv_has ls 3 [(2, .int (I3 a2))]) (r2 : inR a2) (hw : w2_jobs_J58 a2 V Q) : W p l e R s m args below meth c H locs cells slots (MQx below (QT E 1 h0 true P0 kc0 ks0 (sbs []) A (QL (fun x V1 Z1 => Z1 = ZM ∧ Q x V1)) (PL PX) s) s) (F0 m 58 ls []) := by
  have hx := X.2.1
  have hb := X.2.2.1
  unfold w2_jobs_J58 at hw
  refine lv_iload_n hx hb dX2_jobs_58 rfl (lv_at hl 0 rfl) ?_
  exact z_ri X hS hM r2 ⟨rfl, hw⟩ dX2_jobs_59
theorem m2_jobs_J42 {V : Mv} {Q : Int → Mv → Prop} {PX : Px} (X : Cx E 1 h0 P0 kc0 ks0 S0 A p l R s m args meth c cX2_jobs 3 (some .int) 9) (hM : inM V) (hS : HS E 1 h0 P0 kc0 ks0 (sbs []) A s.heap P (toC V) ZM H locs cells slots) (hl : lv_has ls 3 [(0, .ref h0)]) (hw : w2_jobs_J42  V Q) : W p l e R s m args below meth c H locs cells slots (MQx below (QT E 1 h0 true P0 kc0 ks0 (sbs []) A (QL (fun x V1 Z1 => Z1 = ZM ∧ Q x V1)) (PL PX) s) s) (F0 m 42 ls []) := by
  have hx := X.2.1
  have hb := X.2.2.1
  unfold w2_jobs_J42 at hw
  refine lv_aload_n hx hb dX2_jobs_42 rfl (lv_at hl 0 rfl) ?_
  refine z_iconst hx hb dX2_jobs_43 ?_
  refine z_callI X hS (m2_fails (⟨by decide, by decide⟩) hM hw) gv2_257 hy2_fails rfl (by omega) (by decide) (sbs_sub rfl) hl.1 (Nat.le_of_ble_eq_true rfl) dX2_jobs_44 rfl (fun x1 V3 Z6 h2 hM4 hw P5 H locs c1 s1 hP hS => ?_)
  obtain ⟨rfl, hw⟩ := hw
  exact z_ri X hS hM4 h2 ⟨rfl, hw⟩ dX2_jobs_47
theorem m2_jobs_L7 {Q : Int → Mv → Prop} {PX : Px} (X : Cx E 1 h0 P0 kc0 ks0 S0 A p l R s m args meth c cX2_jobs 3 (some .int) 9) : ∀ n, ∀ {a1 : Int} {a2 : Int} {V : Mv} {P : Le} {H : Heap} {locs : List Loc} {cells slots : Nat} {ls : Array Slot}, inM V → HS E 1 h0 P0 kc0 ks0 (sbs []) A s.heap P (toC V) ZM H locs cells slots → lv_has ls 3 [(0, .ref h0), (1, .int (I3 a1)), (2, .int (I3 a2))] → inR a1 → inR a2 → w2_jobs_L7 Q n a1 a2 V → W p l e R s m args below meth c H locs cells slots (MQx below (QT E 1 h0 true P0 kc0 ks0 (sbs []) A (QL (fun x V1 Z1 => Z1 = ZM ∧ Q x V1)) (PL PX) s) s) (F0 m 7 ls []) := by
  have hx := X.2.1
  have hb := X.2.2.1
  intro n
  induction n with
  | zero => intros; rename_i hw; exact hw.elim
  | succ n ih =>
    intro a1 a2 V P H locs cells slots ls hM hS hl r1 r2 hw
    unfold w2_jobs_L7 at hw
    refine lv_iload_n hx hb dX2_jobs_7 rfl (lv_at hl 2 rfl) ?_
    refine lv_iload_n hx hb dX2_jobs_8 rfl (lv_at hl 1 rfl) ?_
    refine z_ige (tgt := 58) hx hb r2 r1 hw dX2_jobs_9 (by decide) (fun hc hw => ?_) (fun hc hw => ?_)
    · exact m2_jobs_J58 X hM hS (lv_sub hl [2] rfl) r2 hw
    · refine lv_aload_n hx hb dX2_jobs_12 rfl (lv_at hl 0 rfl) ?_
      refine z_gi X hS f2_29 dX2_jobs_13 ?_
      refine lv_aload_n hx hb dX2_jobs_16 rfl (lv_at hl 0 rfl) ?_
      refine z_gi X hS f2_30 dX2_jobs_17 ?_
      refine z_ige (tgt := 58) hx hb (hM 29 0) (hM 30 0) hw dX2_jobs_20 (by decide) (fun hc hw => ?_) (fun hc hw => ?_)
      · exact m2_jobs_J58 X hM hS (lv_sub hl [2] rfl) r2 hw
      · refine lv_aload_n hx hb dX2_jobs_23 rfl (lv_at hl 0 rfl) ?_
        refine z_bipush hx hb dX2_jobs_24 (by decide +kernel) ?_
        refine z_callI X hS (m2_isFull (⟨by decide, by decide⟩) hM hw) gv2_254 hy2_isFull rfl (by omega) (by decide) (sbs_sub rfl) hl.1 (Nat.le_of_ble_eq_true rfl) dX2_jobs_26 rfl (fun x7 V9 Z12 h8 hM10 hw P11 H locs c1 s1 hP hS => ?_)
        obtain ⟨rfl, hw⟩ := hw
        refine z_zne (tgt := 42) hx hb h8 hw dX2_jobs_29 (by decide) (fun hc hw => ?_) (fun hc hw => ?_)
        · exact m2_jobs_J42 X hM10 hS (lv_sub hl [0] rfl)  hw
        · refine lv_aload_n hx hb dX2_jobs_32 rfl (lv_at hl 0 rfl) ?_
          refine z_gi X hS f2_36 dX2_jobs_33 ?_
          refine z_sipush hx hb dX2_jobs_36 (by decide +kernel) ?_
          refine z_ilt (tgt := 48) hx hb (hM10 36 0) (⟨by decide, by decide⟩) hw dX2_jobs_39 (by decide) (fun hc hw => ?_) (fun hc hw => ?_)
          · refine lv_aload_n hx hb dX2_jobs_48 rfl (lv_at hl 0 rfl) ?_
            refine z_callV X hS (m2_job  hM10 hw) gv2_272 hy2_job rfl (by omega) (by decide) (sbs_sub rfl) hl.1 (Nat.le_of_ble_eq_true rfl) dX2_jobs_49 rfl (fun x13 V15 Z18 h14 hM16 hw P17 H locs c1 s1 hP hS => ?_)
            obtain ⟨rfl, hw⟩ := hw
            refine z_inc (k := 2) (lv' := [(2, .int (I3 (a2 + 1))), (0, .ref h0), (1, .int (I3 a1))]) hx hb hw dX2_jobs_52 hl rfl (by decide) rfl (fun ls hl h19 hw => ?_)
            refine lv_goto (tgt := 7) hx hb dX2_jobs_55 (by decide) ?_
            exact ih hM16 hS (lv_sub hl [1, 2, 0] rfl) r1 h19 hw
          · exact m2_jobs_J42 X hM10 hS (lv_sub hl [0] rfl)  hw
theorem m2_jobs {a1 : Int} {V : Mv} {Q : Int → Mv → Prop} {PX : Px} (r1 : inR a1) (hM : inM V) (hw : w2_jobs a1 V Q) : MT l S0 E 1 h0 yX2_jobs cX2_jobs 3 (some .int) 9 true (sbs []) [.int (I3 a1)] (toC V) ZM (QL (fun x V1 Z1 => Z1 = ZM ∧ Q x V1)) (PL PX) := by
  refine mt_of Gk1 (by decide) rfl (Nat.le_of_ble_eq_true rfl) ?_
  intro p e s m below meth c A P ls X hS hl
  have hl : lv_has ls 3 [(0, .ref h0), (1, .int (I3 a1))] := hl
  have hx := X.2.1
  have hb := X.2.2.1
  unfold w2_jobs at hw
  refine lv_aload_n hx hb dX2_jobs_0 rfl (lv_at hl 0 rfl) ?_
  refine z_iconst hx hb dX2_jobs_1 ?_
  refine z_pi X hS hM f2_0 p2_0 (⟨by decide, by decide⟩) hw dX2_jobs_2 (fun V20 hM21 hw H locs hS => ?_)
  refine z_iconst hx hb dX2_jobs_5 ?_
  refine lv_istore_n (lv' := [(2, .int (I3 0)), (0, .ref h0), (1, .int (I3 a1))]) hx hb dX2_jobs_6 rfl hl (by decide) rfl (fun ls hl => ?_)
  obtain ⟨n, hw⟩ := hw
  exact m2_jobs_L7 X n hM21 hS (lv_sub hl [1, 2, 0] rfl) r1 (⟨by decide, by decide⟩) hw
theorem m2_state_J46 {b0 : Int} {b1 : Int} {V : Mv} {Q : Int → Mv → Prop} {PX : Px} (X : Cx E 1 h0 P0 kc0 ks0 S0 A p l R s m args meth c cX2_state 2 (some .int) 3) (hM : inM V) (hS : HS E 1 h0 P0 kc0 ks0 (sbs []) A s.heap P (toC V) ZM H locs cells slots) (hl : lv_has ls 2 []) (sr0 : inR b0) (sr1 : inR b1) (hw : w2_state_J46 b0 b1 V Q) : W p l e R s m args below meth c H locs cells slots (MQx below (QT E 1 h0 true P0 kc0 ks0 (sbs []) A (QL (fun x V1 Z1 => Z1 = ZM ∧ Q x V1)) (PL PX) s) s) (F0 m 46 ls [.int (I3 b1), .int (I3 b0)]) := by
  have hx := X.2.1
  have hb := X.2.2.1
  unfold w2_state_J46 at hw
  refine z_add hx hb hw dX2_state_46 (fun h1 hw => ?_)
  exact z_ri X hS hM h1 ⟨rfl, hw⟩ dX2_state_47
theorem m2_state {a1 : Int} {V : Mv} {Q : Int → Mv → Prop} {PX : Px} (r1 : inR a1) (hM : inM V) (hw : w2_state a1 V Q) : MT l S0 E 1 h0 yX2_state cX2_state 2 (some .int) 3 true (sbs []) [.int (I3 a1)] (toC V) ZM (QL (fun x V1 Z1 => Z1 = ZM ∧ Q x V1)) (PL PX) := by
  refine mt_of Gk1 (by decide) rfl (Nat.le_of_ble_eq_true rfl) ?_
  intro p e s m below meth c A P ls X hS hl
  have hl : lv_has ls 2 [(0, .ref h0), (1, .int (I3 a1))] := hl
  have hx := X.2.1
  have hb := X.2.2.1
  unfold w2_state at hw
  refine lv_aload_n hx hb dX2_state_0 rfl (lv_at hl 0 rfl) ?_
  refine z_iconst hx hb dX2_state_1 ?_
  refine z_pi X hS hM f2_0 p2_0 (⟨by decide, by decide⟩) hw dX2_state_2 (fun V2 hM3 hw H locs hS => ?_)
  refine lv_aload_n hx hb dX2_state_5 rfl (lv_at hl 0 rfl) ?_
  refine lv_iload_n hx hb dX2_state_6 rfl (lv_at hl 1 rfl) ?_
  refine z_iconst hx hb dX2_state_7 ?_
  refine z_callI X hS (m2_isKind r1 (⟨by decide, by decide⟩) hM3 hw) gv2_179 hy2_isKind rfl (by omega) (by decide) (sbs_sub rfl) hl.1 (Nat.le_of_ble_eq_true rfl) dX2_state_8 rfl (fun x4 V6 Z9 h5 hM7 hw P8 H locs c1 s1 hP hS => ?_)
  obtain ⟨rfl, hw⟩ := hw
  refine z_zne (tgt := 20) hx hb h5 hw dX2_state_11 (by decide) (fun hc hw => ?_) (fun hc hw => ?_)
  · refine lv_aload_n hx hb dX2_state_20 rfl (lv_at hl 0 rfl) ?_
    refine r_ga X hS f2_3 dX2_state_21 ?_
    refine z_bipush hx hb dX2_state_24 (by decide +kernel) ?_
    refine lv_iload_n hx hb dX2_state_26 rfl (lv_at hl 1 rfl) ?_
    refine z_sub hx hb hw dX2_state_27 (fun h10 hw => ?_)
    refine z_il X hS a2_3 hw dX2_state_28 (fun hw => ?_)
    refine lv_aload_n hx hb dX2_state_29 rfl (lv_at hl 0 rfl) ?_
    refine r_ga X hS f2_7 dX2_state_30 ?_
    refine z_bipush hx hb dX2_state_33 (by decide +kernel) ?_
    refine lv_iload_n hx hb dX2_state_35 rfl (lv_at hl 1 rfl) ?_
    refine z_sub hx hb hw dX2_state_36 (fun h11 hw => ?_)
    refine z_zl X hS a2_7 hw dX2_state_37 (fun hw => ?_)
    refine z_zeq (tgt := 45) hx hb (hM7 7 ((-2) - a1)) hw dX2_state_38 (by decide) (fun hc hw => ?_) (fun hc hw => ?_)
    · refine z_iconst hx hb dX2_state_45 ?_
      exact m2_state_J46 X hM7 hS (lv_sub hl [] rfl) (hM7 3 ((-2) - a1)) (⟨by decide, by decide⟩) hw
    · refine z_iconst hx hb dX2_state_41 ?_
      refine lv_goto (tgt := 46) hx hb dX2_state_42 (by decide) ?_
      exact m2_state_J46 X hM7 hS (lv_sub hl [] rfl) (hM7 3 ((-2) - a1)) (⟨by decide, by decide⟩) hw
  · refine lv_aload_n hx hb dX2_state_14 rfl (lv_at hl 0 rfl) ?_
    refine z_iconst hx hb dX2_state_15 ?_
    refine z_callI X hS (m2_fails (⟨by decide, by decide⟩) hM7 hw) gv2_257 hy2_fails rfl (by omega) (by decide) (sbs_sub rfl) hl.1 (Nat.le_of_ble_eq_true rfl) dX2_state_16 rfl (fun x12 V14 Z17 h13 hM15 hw P16 H locs c1 s1 hP hS => ?_)
    obtain ⟨rfl, hw⟩ := hw
    exact z_ri X hS hM15 h13 ⟨rfl, hw⟩ dX2_state_19
theorem m2_result_J31 {b0 : Int} {V : Mv} {Q : Int → Mv → Prop} {PX : Px} (X : Cx E 1 h0 P0 kc0 ks0 S0 A p l R s m args meth c cX2_result 2 (some .int) 3) (hM : inM V) (hS : HS E 1 h0 P0 kc0 ks0 (sbs []) A s.heap P (toC V) ZM H locs cells slots) (hl : lv_has ls 2 []) (sr0 : inR b0) (hw : w2_result_J31 b0 V Q) : W p l e R s m args below meth c H locs cells slots (MQx below (QT E 1 h0 true P0 kc0 ks0 (sbs []) A (QL (fun x V1 Z1 => Z1 = ZM ∧ Q x V1)) (PL PX) s) s) (F0 m 31 ls [.int (I3 b0)]) := by
  have hx := X.2.1
  have hb := X.2.2.1
  unfold w2_result_J31 at hw
  exact z_ri X hS hM sr0 ⟨rfl, hw⟩ dX2_result_31
theorem m2_result {a1 : Int} {V : Mv} {Q : Int → Mv → Prop} {PX : Px} (r1 : inR a1) (hM : inM V) (hw : w2_result a1 V Q) : MT l S0 E 1 h0 yX2_result cX2_result 2 (some .int) 3 true (sbs []) [.int (I3 a1)] (toC V) ZM (QL (fun x V1 Z1 => Z1 = ZM ∧ Q x V1)) (PL PX) := by
  refine mt_of Gk1 (by decide) rfl (Nat.le_of_ble_eq_true rfl) ?_
  intro p e s m below meth c A P ls X hS hl
  have hl : lv_has ls 2 [(0, .ref h0), (1, .int (I3 a1))] := hl
  have hx := X.2.1
  have hb := X.2.2.1
  unfold w2_result at hw
  refine lv_aload_n hx hb dX2_result_0 rfl (lv_at hl 0 rfl) ?_
  refine z_iconst hx hb dX2_result_1 ?_
  refine z_pi X hS hM f2_0 p2_0 (⟨by decide, by decide⟩) hw dX2_result_2 (fun V1 hM2 hw H locs hS => ?_)
  refine lv_aload_n hx hb dX2_result_5 rfl (lv_at hl 0 rfl) ?_
  refine lv_iload_n hx hb dX2_result_6 rfl (lv_at hl 1 rfl) ?_
  refine z_iconst hx hb dX2_result_7 ?_
  refine z_callI X hS (m2_isKind r1 (⟨by decide, by decide⟩) hM2 hw) gv2_179 hy2_isKind rfl (by omega) (by decide) (sbs_sub rfl) hl.1 (Nat.le_of_ble_eq_true rfl) dX2_result_8 rfl (fun x3 V5 Z8 h4 hM6 hw P7 H locs c1 s1 hP hS => ?_)
  obtain ⟨rfl, hw⟩ := hw
  refine z_zeq (tgt := 26) hx hb h4 hw dX2_result_11 (by decide) (fun hc hw => ?_) (fun hc hw => ?_)
  · refine lv_aload_n hx hb dX2_result_26 rfl (lv_at hl 0 rfl) ?_
    refine z_iconst hx hb dX2_result_27 ?_
    refine z_callI X hS (m2_fails (⟨by decide, by decide⟩) hM6 hw) gv2_257 hy2_fails rfl (by omega) (by decide) (sbs_sub rfl) hl.1 (Nat.le_of_ble_eq_true rfl) dX2_result_28 rfl (fun x9 V11 Z14 h10 hM12 hw P13 H locs c1 s1 hP hS => ?_)
    obtain ⟨rfl, hw⟩ := hw
    exact m2_result_J31 X hM12 hS (lv_sub hl [] rfl) h10 hw
  · refine lv_aload_n hx hb dX2_result_14 rfl (lv_at hl 0 rfl) ?_
    refine r_ga X hS f2_4 dX2_result_15 ?_
    refine z_bipush hx hb dX2_result_18 (by decide +kernel) ?_
    refine lv_iload_n hx hb dX2_result_20 rfl (lv_at hl 1 rfl) ?_
    refine z_sub hx hb hw dX2_result_21 (fun h15 hw => ?_)
    refine z_il X hS a2_4 hw dX2_result_22 (fun hw => ?_)
    refine lv_goto (tgt := 31) hx hb dX2_result_23 (by decide) ?_
    exact m2_result_J31 X hM6 hS (lv_sub hl [] rfl) (hM6 4 ((-2) - a1)) hw
theorem m2_kind_J30 {b0 : Int} {V : Mv} {Q : Int → Mv → Prop} {PX : Px} (X : Cx E 1 h0 P0 kc0 ks0 S0 A p l R s m args meth c cX2_kind 2 (some .int) 2) (hM : inM V) (hS : HS E 1 h0 P0 kc0 ks0 (sbs []) A s.heap P (toC V) ZM H locs cells slots) (hl : lv_has ls 2 []) (sr0 : inR b0) (hw : w2_kind_J30 b0 V Q) : W p l e R s m args below meth c H locs cells slots (MQx below (QT E 1 h0 true P0 kc0 ks0 (sbs []) A (QL (fun x V1 Z1 => Z1 = ZM ∧ Q x V1)) (PL PX) s) s) (F0 m 30 ls [.int (I3 b0)]) := by
  have hx := X.2.1
  have hb := X.2.2.1
  unfold w2_kind_J30 at hw
  exact z_ri X hS hM sr0 ⟨rfl, hw⟩ dX2_kind_30
theorem m2_kind {a1 : Int} {V : Mv} {Q : Int → Mv → Prop} {PX : Px} (r1 : inR a1) (hM : inM V) (hw : w2_kind a1 V Q) : MT l S0 E 1 h0 yX2_kind cX2_kind 2 (some .int) 2 true (sbs []) [.int (I3 a1)] (toC V) ZM (QL (fun x V1 Z1 => Z1 = ZM ∧ Q x V1)) (PL PX) := by
  refine mt_of Gk1 (by decide) rfl (Nat.le_of_ble_eq_true rfl) ?_
  intro p e s m below meth c A P ls X hS hl
  have hl : lv_has ls 2 [(0, .ref h0), (1, .int (I3 a1))] := hl
  have hx := X.2.1
  have hb := X.2.2.1
  unfold w2_kind at hw
  refine lv_aload_n hx hb dX2_kind_0 rfl (lv_at hl 0 rfl) ?_
  refine z_iconst hx hb dX2_kind_1 ?_
  refine z_pi X hS hM f2_0 p2_0 (⟨by decide, by decide⟩) hw dX2_kind_2 (fun V1 hM2 hw H locs hS => ?_)
  refine lv_aload_n hx hb dX2_kind_5 rfl (lv_at hl 0 rfl) ?_
  refine lv_iload_n hx hb dX2_kind_6 rfl (lv_at hl 1 rfl) ?_
  refine z_callI X hS (m2_isObject r1 hM2 hw) gv2_138 hy2_isObject rfl (by omega) (by decide) (sbs_sub rfl) hl.1 (Nat.le_of_ble_eq_true rfl) dX2_kind_7 rfl (fun x3 V5 Z8 h4 hM6 hw P7 H locs c1 s1 hP hS => ?_)
  obtain ⟨rfl, hw⟩ := hw
  refine z_zeq (tgt := 25) hx hb h4 hw dX2_kind_10 (by decide) (fun hc hw => ?_) (fun hc hw => ?_)
  · refine lv_aload_n hx hb dX2_kind_25 rfl (lv_at hl 0 rfl) ?_
    refine z_iconst hx hb dX2_kind_26 ?_
    refine z_callI X hS (m2_fails (⟨by decide, by decide⟩) hM6 hw) gv2_257 hy2_fails rfl (by omega) (by decide) (sbs_sub rfl) hl.1 (Nat.le_of_ble_eq_true rfl) dX2_kind_27 rfl (fun x9 V11 Z14 h10 hM12 hw P13 H locs c1 s1 hP hS => ?_)
    obtain ⟨rfl, hw⟩ := hw
    exact m2_kind_J30 X hM12 hS (lv_sub hl [] rfl) h10 hw
  · refine lv_aload_n hx hb dX2_kind_13 rfl (lv_at hl 0 rfl) ?_
    refine r_ga X hS f2_2 dX2_kind_14 ?_
    refine z_bipush hx hb dX2_kind_17 (by decide +kernel) ?_
    refine lv_iload_n hx hb dX2_kind_19 rfl (lv_at hl 1 rfl) ?_
    refine z_sub hx hb hw dX2_kind_20 (fun h15 hw => ?_)
    refine z_il X hS a2_2 hw dX2_kind_21 (fun hw => ?_)
    refine lv_goto (tgt := 30) hx hb dX2_kind_22 (by decide) ?_
    exact m2_kind_J30 X hM6 hS (lv_sub hl [] rfl) (hM6 2 ((-2) - a1)) hw
theorem m2_part_J111 {V : Mv} {Q : Int → Mv → Prop} {PX : Px} (X : Cx E 1 h0 P0 kc0 ks0 S0 A p l R s m args meth c cX2_part 4 (some .int) 2) (hM : inM V) (hS : HS E 1 h0 P0 kc0 ks0 (sbs []) A s.heap P (toC V) ZM H locs cells slots) (hl : lv_has ls 4 [(0, .ref h0)]) (hw : w2_part_J111  V Q) : W p l e R s m args below meth c H locs cells slots (MQx below (QT E 1 h0 true P0 kc0 ks0 (sbs []) A (QL (fun x V1 Z1 => Z1 = ZM ∧ Q x V1)) (PL PX) s) s) (F0 m 111 ls []) := by
  have hx := X.2.1
  have hb := X.2.2.1
  unfold w2_part_J111 at hw
  refine lv_aload_n hx hb dX2_part_111 rfl (lv_at hl 0 rfl) ?_
  refine z_iconst hx hb dX2_part_112 ?_
  refine z_callI X hS (m2_fails (⟨by decide, by decide⟩) hM hw) gv2_257 hy2_fails rfl (by omega) (by decide) (sbs_sub rfl) hl.1 (Nat.le_of_ble_eq_true rfl) dX2_part_113 rfl (fun x1 V3 Z6 h2 hM4 hw P5 H locs c1 s1 hP hS => ?_)
  obtain ⟨rfl, hw⟩ := hw
  exact z_ri X hS hM4 h2 ⟨rfl, hw⟩ dX2_part_116
theorem m2_part_J144 {b0 : Int} {V : Mv} {Q : Int → Mv → Prop} {PX : Px} (X : Cx E 1 h0 P0 kc0 ks0 S0 A p l R s m args meth c cX2_part 4 (some .int) 2) (hM : inM V) (hS : HS E 1 h0 P0 kc0 ks0 (sbs []) A s.heap P (toC V) ZM H locs cells slots) (hl : lv_has ls 4 []) (sr0 : inR b0) (hw : w2_part_J144 b0 V Q) : W p l e R s m args below meth c H locs cells slots (MQx below (QT E 1 h0 true P0 kc0 ks0 (sbs []) A (QL (fun x V1 Z1 => Z1 = ZM ∧ Q x V1)) (PL PX) s) s) (F0 m 144 ls [.int (I3 b0)]) := by
  have hx := X.2.1
  have hb := X.2.2.1
  unfold w2_part_J144 at hw
  exact z_ri X hS hM sr0 ⟨rfl, hw⟩ dX2_part_144
theorem m2_part_J96 {a2 : Int} {a3 : Int} {V : Mv} {Q : Int → Mv → Prop} {PX : Px} (X : Cx E 1 h0 P0 kc0 ks0 S0 A p l R s m args meth c cX2_part 4 (some .int) 2) (hM : inM V) (hS : HS E 1 h0 P0 kc0 ks0 (sbs []) A s.heap P (toC V) ZM H locs cells slots) (hl : lv_has ls 4 [(0, .ref h0), (2, .int (I3 a2)), (3, .int (I3 a3))]) (r2 : inR a2) (r3 : inR a3) (hw : w2_part_J96 a2 a3 V Q) : W p l e R s m args below meth c H locs cells slots (MQx below (QT E 1 h0 true P0 kc0 ks0 (sbs []) A (QL (fun x V1 Z1 => Z1 = ZM ∧ Q x V1)) (PL PX) s) s) (F0 m 96 ls []) := by
  have hx := X.2.1
  have hb := X.2.2.1
  unfold w2_part_J96 at hw
  refine lv_iload_n hx hb dX2_part_96 rfl (lv_at hl 1 rfl) ?_
  refine z_iconst hx hb dX2_part_97 ?_
  refine z_ilt (tgt := 111) hx hb r2 (⟨by decide, by decide⟩) hw dX2_part_98 (by decide) (fun hc hw => ?_) (fun hc hw => ?_)
  · exact m2_part_J111 X hM hS (lv_sub hl [0] rfl)  hw
  · refine lv_iload_n hx hb dX2_part_101 rfl (lv_at hl 1 rfl) ?_
    refine lv_aload_n hx hb dX2_part_102 rfl (lv_at hl 0 rfl) ?_
    refine r_ga X hS f2_9 dX2_part_103 ?_
    refine lv_iload_n hx hb dX2_part_106 rfl (lv_at hl 2 rfl) ?_
    refine z_il X hS a2_9 hw dX2_part_107 (fun hw => ?_)
    refine z_ilt (tgt := 117) hx hb r2 (hM 9 a3) hw dX2_part_108 (by decide) (fun hc hw => ?_) (fun hc hw => ?_)
    · refine lv_iload_n hx hb dX2_part_117 rfl (lv_at hl 1 rfl) ?_
      refine z_iconst hx hb dX2_part_118 ?_
      refine z_ine (tgt := 131) hx hb r2 (⟨by decide, by decide⟩) hw dX2_part_119 (by decide) (fun hc hw => ?_) (fun hc hw => ?_)
      · refine lv_aload_n hx hb dX2_part_131 rfl (lv_at hl 0 rfl) ?_
        refine r_ga X hS f2_39 dX2_part_132 ?_
        refine lv_aload_n hx hb dX2_part_135 rfl (lv_at hl 0 rfl) ?_
        refine r_ga X hS f2_8 dX2_part_136 ?_
        refine lv_iload_n hx hb dX2_part_139 rfl (lv_at hl 2 rfl) ?_
        refine z_il X hS a2_8 hw dX2_part_140 (fun hw => ?_)
        refine lv_iload_n hx hb dX2_part_141 rfl (lv_at hl 1 rfl) ?_
        refine z_add hx hb hw dX2_part_142 (fun h7 hw => ?_)
        refine z_il X hS a2_39 hw dX2_part_143 (fun hw => ?_)
        exact m2_part_J144 X hM hS (lv_sub hl [] rfl) (hM 39 (V 8 a3 + a2)) hw
      · refine lv_aload_n hx hb dX2_part_122 rfl (lv_at hl 0 rfl) ?_
        refine r_ga X hS f2_9 dX2_part_123 ?_
        refine lv_iload_n hx hb dX2_part_126 rfl (lv_at hl 2 rfl) ?_
        refine z_il X hS a2_9 hw dX2_part_127 (fun hw => ?_)
        refine lv_goto (tgt := 144) hx hb dX2_part_128 (by decide) ?_
        exact m2_part_J144 X hM hS (lv_sub hl [] rfl) (hM 9 a3) hw
    · exact m2_part_J111 X hM hS (lv_sub hl [0] rfl)  hw
theorem m2_part_J75 {b0 : Int} {V : Mv} {Q : Int → Mv → Prop} {PX : Px} (X : Cx E 1 h0 P0 kc0 ks0 S0 A p l R s m args meth c cX2_part 4 (some .int) 2) (hM : inM V) (hS : HS E 1 h0 P0 kc0 ks0 (sbs []) A s.heap P (toC V) ZM H locs cells slots) (hl : lv_has ls 4 []) (sr0 : inR b0) (hw : w2_part_J75 b0 V Q) : W p l e R s m args below meth c H locs cells slots (MQx below (QT E 1 h0 true P0 kc0 ks0 (sbs []) A (QL (fun x V1 Z1 => Z1 = ZM ∧ Q x V1)) (PL PX) s) s) (F0 m 75 ls [.int (I3 b0)]) := by
  have hx := X.2.1
  have hb := X.2.2.1
  unfold w2_part_J75 at hw
  exact z_ri X hS hM sr0 ⟨rfl, hw⟩ dX2_part_75
theorem m2_part {a1 : Int} {a2 : Int} {V : Mv} {Q : Int → Mv → Prop} {PX : Px} (r1 : inR a1) (r2 : inR a2) (hM : inM V) (hw : w2_part a1 a2 V Q) : MT l S0 E 1 h0 yX2_part cX2_part 4 (some .int) 2 true (sbs []) [.int (I3 a1), .int (I3 a2)] (toC V) ZM (QL (fun x V1 Z1 => Z1 = ZM ∧ Q x V1)) (PL PX) := by
  refine mt_of Gk1 (by decide) rfl (Nat.le_of_ble_eq_true rfl) ?_
  intro p e s m below meth c A P ls X hS hl
  have hl : lv_has ls 4 [(0, .ref h0), (1, .int (I3 a1)), (2, .int (I3 a2))] := hl
  have hx := X.2.1
  have hb := X.2.2.1
  unfold w2_part at hw
  refine lv_aload_n hx hb dX2_part_0 rfl (lv_at hl 0 rfl) ?_
  refine z_iconst hx hb dX2_part_1 ?_
  refine z_pi X hS hM f2_0 p2_0 (⟨by decide, by decide⟩) hw dX2_part_2 (fun V8 hM9 hw H locs hS => ?_)
  refine lv_aload_n hx hb dX2_part_5 rfl (lv_at hl 0 rfl) ?_
  refine lv_iload_n hx hb dX2_part_6 rfl (lv_at hl 1 rfl) ?_
  refine z_callI X hS (m2_isObject r1 hM9 hw) gv2_138 hy2_isObject rfl (by omega) (by decide) (sbs_sub rfl) hl.1 (Nat.le_of_ble_eq_true rfl) dX2_part_7 rfl (fun x10 V12 Z15 h11 hM13 hw P14 H locs c1 s1 hP hS => ?_)
  obtain ⟨rfl, hw⟩ := hw
  refine z_zne (tgt := 19) hx hb h11 hw dX2_part_10 (by decide) (fun hc hw => ?_) (fun hc hw => ?_)
  · refine z_bipush hx hb dX2_part_19 (by decide +kernel) ?_
    refine lv_iload_n hx hb dX2_part_21 rfl (lv_at hl 1 rfl) ?_
    refine z_sub hx hb hw dX2_part_22 (fun h16 hw => ?_)
    refine lv_istore_n (lv' := [(3, .int (I3 ((-2) - a1))), (0, .ref h0), (1, .int (I3 a1)), (2, .int (I3 a2))]) hx hb dX2_part_23 rfl hl (by decide) rfl (fun ls hl => ?_)
    refine lv_aload_n hx hb dX2_part_24 rfl (lv_at hl 1 rfl) ?_
    refine r_ga X hS f2_2 dX2_part_25 ?_
    refine lv_iload_n hx hb dX2_part_28 rfl (lv_at hl 0 rfl) ?_
    refine z_il X hS a2_2 hw dX2_part_29 (fun hw => ?_)
    refine z_iconst hx hb dX2_part_30 ?_
    refine z_ine (tgt := 76) hx hb (hM13 2 ((-2) - a1)) (⟨by decide, by decide⟩) hw dX2_part_31 (by decide) (fun hc hw => ?_) (fun hc hw => ?_)
    · refine lv_aload_n hx hb dX2_part_76 rfl (lv_at hl 1 rfl) ?_
      refine r_ga X hS f2_2 dX2_part_77 ?_
      refine lv_iload_n hx hb dX2_part_80 rfl (lv_at hl 0 rfl) ?_
      refine z_il X hS a2_2 hw dX2_part_81 (fun hw => ?_)
      refine z_iconst hx hb dX2_part_82 ?_
      refine z_ieq (tgt := 96) hx hb (hM13 2 ((-2) - a1)) (⟨by decide, by decide⟩) hw dX2_part_83 (by decide) (fun hc hw => ?_) (fun hc hw => ?_)
      · exact m2_part_J96 X hM13 hS (lv_sub hl [1, 3, 0] rfl) r2 h16 hw
      · refine lv_aload_n hx hb dX2_part_86 rfl (lv_at hl 1 rfl) ?_
        refine r_ga X hS f2_2 dX2_part_87 ?_
        refine lv_iload_n hx hb dX2_part_90 rfl (lv_at hl 0 rfl) ?_
        refine z_il X hS a2_2 hw dX2_part_91 (fun hw => ?_)
        refine z_iconst hx hb dX2_part_92 ?_
        refine z_ine (tgt := 111) hx hb (hM13 2 ((-2) - a1)) (⟨by decide, by decide⟩) hw dX2_part_93 (by decide) (fun hc hw => ?_) (fun hc hw => ?_)
        · exact m2_part_J111 X hM13 hS (lv_sub hl [1] rfl)  hw
        · exact m2_part_J96 X hM13 hS (lv_sub hl [1, 3, 0] rfl) r2 h16 hw
    · refine lv_iload_n hx hb dX2_part_34 rfl (lv_at hl 3 rfl) ?_
      refine z_iconst hx hb dX2_part_35 ?_
      refine z_ine (tgt := 43) hx hb r2 (⟨by decide, by decide⟩) hw dX2_part_36 (by decide) (fun hc hw => ?_) (fun hc hw => ?_)
      · refine lv_iload_n hx hb dX2_part_43 rfl (lv_at hl 3 rfl) ?_
        refine z_zne (tgt := 56) hx hb r2 hw dX2_part_44 (by decide) (fun hc hw => ?_) (fun hc hw => ?_)
        · refine lv_iload_n hx hb dX2_part_56 rfl (lv_at hl 3 rfl) ?_
          refine z_iconst hx hb dX2_part_57 ?_
          refine z_ine (tgt := 70) hx hb r2 (⟨by decide, by decide⟩) hw dX2_part_58 (by decide) (fun hc hw => ?_) (fun hc hw => ?_)
          · refine lv_aload_n hx hb dX2_part_70 rfl (lv_at hl 1 rfl) ?_
            refine z_iconst hx hb dX2_part_71 ?_
            refine z_callI X hS (m2_fails (⟨by decide, by decide⟩) hM13 hw) gv2_257 hy2_fails rfl (by omega) (by decide) (sbs_sub rfl) hl.1 (Nat.le_of_ble_eq_true rfl) dX2_part_72 rfl (fun x17 V19 Z22 h18 hM20 hw P21 H locs c1 s1 hP hS => ?_)
            obtain ⟨rfl, hw⟩ := hw
            exact m2_part_J75 X hM20 hS (lv_sub hl [] rfl) h18 hw
          · refine lv_aload_n hx hb dX2_part_61 rfl (lv_at hl 1 rfl) ?_
            refine r_ga X hS f2_9 dX2_part_62 ?_
            refine lv_iload_n hx hb dX2_part_65 rfl (lv_at hl 0 rfl) ?_
            refine z_il X hS a2_9 hw dX2_part_66 (fun hw => ?_)
            refine lv_goto (tgt := 75) hx hb dX2_part_67 (by decide) ?_
            exact m2_part_J75 X hM13 hS (lv_sub hl [] rfl) (hM13 9 ((-2) - a1)) hw
        · refine lv_aload_n hx hb dX2_part_47 rfl (lv_at hl 1 rfl) ?_
          refine r_ga X hS f2_8 dX2_part_48 ?_
          refine lv_iload_n hx hb dX2_part_51 rfl (lv_at hl 0 rfl) ?_
          refine z_il X hS a2_8 hw dX2_part_52 (fun hw => ?_)
          refine lv_goto (tgt := 75) hx hb dX2_part_53 (by decide) ?_
          exact m2_part_J75 X hM13 hS (lv_sub hl [] rfl) (hM13 8 ((-2) - a1)) hw
      · refine z_iconst hx hb dX2_part_39 ?_
        refine lv_goto (tgt := 75) hx hb dX2_part_40 (by decide) ?_
        exact m2_part_J75 X hM13 hS (lv_sub hl [] rfl) (⟨by decide, by decide⟩) hw
  · refine lv_aload_n hx hb dX2_part_13 rfl (lv_at hl 0 rfl) ?_
    refine z_iconst hx hb dX2_part_14 ?_
    refine z_callI X hS (m2_fails (⟨by decide, by decide⟩) hM13 hw) gv2_257 hy2_fails rfl (by omega) (by decide) (sbs_sub rfl) hl.1 (Nat.le_of_ble_eq_true rfl) dX2_part_15 rfl (fun x23 V25 Z28 h24 hM26 hw P27 H locs c1 s1 hP hS => ?_)
    obtain ⟨rfl, hw⟩ := hw
    exact z_ri X hS hM26 h24 ⟨rfl, hw⟩ dX2_part_18
theorem m2_log_J17 {V : Mv} {Q : Int → Mv → Prop} {PX : Px} (X : Cx E 1 h0 P0 kc0 ks0 S0 A p l R s m args meth c cX2_log 3 (some .int) 1) (hM : inM V) (hS : HS E 1 h0 P0 kc0 ks0 (sbs []) A s.heap P (toC V) ZM H locs cells slots) (hl : lv_has ls 3 []) (hw : w2_log_J17  V Q) : W p l e R s m args below meth c H locs cells slots (MQx below (QT E 1 h0 true P0 kc0 ks0 (sbs []) A (QL (fun x V1 Z1 => Z1 = ZM ∧ Q x V1)) (PL PX) s) s) (F0 m 17 ls []) := by
  have hx := X.2.1
  have hb := X.2.2.1
  unfold w2_log_J17 at hw
  refine z_ldc2 X dX2_log_17 ?_
  exact z_ri X hS hM (⟨by decide, by decide⟩) ⟨rfl, hw⟩ dX2_log_20
theorem m2_log_J40 {b0 : Int} {V : Mv} {Q : Int → Mv → Prop} {PX : Px} (X : Cx E 1 h0 P0 kc0 ks0 S0 A p l R s m args meth c cX2_log 3 (some .int) 1) (hM : inM V) (hS : HS E 1 h0 P0 kc0 ks0 (sbs []) A s.heap P (toC V) ZM H locs cells slots) (hl : lv_has ls 3 []) (sr0 : inR b0) (hw : w2_log_J40 b0 V Q) : W p l e R s m args below meth c H locs cells slots (MQx below (QT E 1 h0 true P0 kc0 ks0 (sbs []) A (QL (fun x V1 Z1 => Z1 = ZM ∧ Q x V1)) (PL PX) s) s) (F0 m 40 ls [.int (I3 b0)]) := by
  have hx := X.2.1
  have hb := X.2.2.1
  unfold w2_log_J40 at hw
  exact z_ri X hS hM sr0 ⟨rfl, hw⟩ dX2_log_40
theorem m2_log {a1 : Int} {a2 : Int} {V : Mv} {Q : Int → Mv → Prop} {PX : Px} (r1 : inR a1) (r2 : inR a2) (hM : inM V) (hw : w2_log a1 a2 V Q) : MT l S0 E 1 h0 yX2_log cX2_log 3 (some .int) 1 true (sbs []) [.int (I3 a1), .int (I3 a2)] (toC V) ZM (QL (fun x V1 Z1 => Z1 = ZM ∧ Q x V1)) (PL PX) := by
  refine mt_of Gk1 (by decide) rfl (Nat.le_of_ble_eq_true rfl) ?_
  intro p e s m below meth c A P ls X hS hl
  have hl : lv_has ls 3 [(0, .ref h0), (1, .int (I3 a1)), (2, .int (I3 a2))] := hl
  have hx := X.2.1
  have hb := X.2.2.1
  unfold w2_log at hw
  refine lv_aload_n hx hb dX2_log_0 rfl (lv_at hl 0 rfl) ?_
  refine z_iconst hx hb dX2_log_1 ?_
  refine z_pi X hS hM f2_0 p2_0 (⟨by decide, by decide⟩) hw dX2_log_2 (fun V1 hM2 hw H locs hS => ?_)
  refine lv_iload_n hx hb dX2_log_5 rfl (lv_at hl 1 rfl) ?_
  refine z_zlt (tgt := 17) hx hb r1 hw dX2_log_6 (by decide) (fun hc hw => ?_) (fun hc hw => ?_)
  · exact m2_log_J17 X hM2 hS (lv_sub hl [] rfl)  hw
  · refine lv_iload_n hx hb dX2_log_9 rfl (lv_at hl 1 rfl) ?_
    refine lv_aload_n hx hb dX2_log_10 rfl (lv_at hl 0 rfl) ?_
    refine z_gi X hS f2_36 dX2_log_11 ?_
    refine z_ilt (tgt := 21) hx hb r1 (hM2 36 0) hw dX2_log_14 (by decide) (fun hc hw => ?_) (fun hc hw => ?_)
    · refine lv_iload_n hx hb dX2_log_21 rfl (lv_at hl 2 rfl) ?_
      refine z_zeq (tgt := 34) hx hb r2 hw dX2_log_22 (by decide) (fun hc hw => ?_) (fun hc hw => ?_)
      · refine lv_aload_n hx hb dX2_log_34 rfl (lv_at hl 0 rfl) ?_
        refine r_ga X hS f2_34 dX2_log_35 ?_
        refine lv_iload_n hx hb dX2_log_38 rfl (lv_at hl 1 rfl) ?_
        refine z_il X hS a2_34 hw dX2_log_39 (fun hw => ?_)
        exact m2_log_J40 X hM2 hS (lv_sub hl [] rfl) (hM2 34 a1) hw
      · refine lv_aload_n hx hb dX2_log_25 rfl (lv_at hl 0 rfl) ?_
        refine r_ga X hS f2_35 dX2_log_26 ?_
        refine lv_iload_n hx hb dX2_log_29 rfl (lv_at hl 1 rfl) ?_
        refine z_il X hS a2_35 hw dX2_log_30 (fun hw => ?_)
        refine lv_goto (tgt := 40) hx hb dX2_log_31 (by decide) ?_
        exact m2_log_J40 X hM2 hS (lv_sub hl [] rfl) (hM2 35 a1) hw
    · exact m2_log_J17 X hM2 hS (lv_sub hl [] rfl)  hw
theorem m2_count {a1 : Int} {V : Mv} {Q : Int → Mv → Prop} {PX : Px} (r1 : inR a1) (hM : inM V) (hw : w2_count a1 V Q) : MT l S0 E 1 h0 yX2_count cX2_count 2 (some .int) 2 true (sbs []) [.int (I3 a1)] (toC V) ZM (QL (fun x V1 Z1 => Z1 = ZM ∧ Q x V1)) (PL PX) := by
  refine mt_of Gk1 (by decide) rfl (Nat.le_of_ble_eq_true rfl) ?_
  intro p e s m below meth c A P ls X hS hl
  have hl : lv_has ls 2 [(0, .ref h0), (1, .int (I3 a1))] := hl
  have hx := X.2.1
  have hb := X.2.2.1
  unfold w2_count at hw
  refine lv_aload_n hx hb dX2_count_0 rfl (lv_at hl 0 rfl) ?_
  refine z_iconst hx hb dX2_count_1 ?_
  refine z_pi X hS hM f2_0 p2_0 (⟨by decide, by decide⟩) hw dX2_count_2 (fun V1 hM2 hw H locs hS => ?_)
  refine lv_iload_n hx hb dX2_count_5 rfl (lv_at hl 1 rfl) ?_
  refine z_case hw (fun hc hw => ?_) (fun hc0 hw => ?_)
  · refine z_tin (tgt := 40) (a := 0) hx hb r1 hc dX2_count_6 (by decide) (by decide) rfl (by decide) ?_
    refine lv_aload_n hx hb dX2_count_40 rfl (lv_at hl 0 rfl) ?_
    refine z_gi X hS f2_1 dX2_count_41 ?_
    exact z_ri X hS hM2 (hM2 1 0) ⟨rfl, hw⟩ dX2_count_44
  refine z_case hw (fun hc hw => ?_) (fun hc1 hw => ?_)
  · refine z_tin (tgt := 45) (a := 1) hx hb r1 hc dX2_count_6 (by decide) (by decide) rfl (by decide) ?_
    refine lv_aload_n hx hb dX2_count_45 rfl (lv_at hl 0 rfl) ?_
    refine z_gi X hS f2_30 dX2_count_46 ?_
    refine lv_aload_n hx hb dX2_count_49 rfl (lv_at hl 0 rfl) ?_
    refine z_gi X hS f2_29 dX2_count_50 ?_
    refine z_sub hx hb hw dX2_count_53 (fun h3 hw => ?_)
    exact z_ri X hS hM2 h3 ⟨rfl, hw⟩ dX2_count_54
  refine z_case hw (fun hc hw => ?_) (fun hc2 hw => ?_)
  · refine z_tin (tgt := 55) (a := 2) hx hb r1 hc dX2_count_6 (by decide) (by decide) rfl (by decide) ?_
    refine lv_aload_n hx hb dX2_count_55 rfl (lv_at hl 0 rfl) ?_
    refine z_gi X hS f2_36 dX2_count_56 ?_
    exact z_ri X hS hM2 (hM2 36 0) ⟨rfl, hw⟩ dX2_count_59
  refine z_case hw (fun hc hw => ?_) (fun hc3 hw => ?_)
  · refine z_tin (tgt := 60) (a := 3) hx hb r1 hc dX2_count_6 (by decide) (by decide) rfl (by decide) ?_
    refine lv_aload_n hx hb dX2_count_60 rfl (lv_at hl 0 rfl) ?_
    refine z_gi X hS f2_38 dX2_count_61 ?_
    exact z_ri X hS hM2 (hM2 38 0) ⟨rfl, hw⟩ dX2_count_64
  refine z_case hw (fun hc hw => ?_) (fun hc4 hw => ?_)
  · refine z_tin (tgt := 65) (a := 4) hx hb r1 hc dX2_count_6 (by decide) (by decide) rfl (by decide) ?_
    refine lv_aload_n hx hb dX2_count_65 rfl (lv_at hl 0 rfl) ?_
    refine z_gi X hS f2_33 dX2_count_66 ?_
    exact z_ri X hS hM2 (hM2 33 0) ⟨rfl, hw⟩ dX2_count_69
  refine z_tout (tgt := 70) hx hb r1 dX2_count_6 (by omega) (by decide) ?_
  refine lv_aload_n hx hb dX2_count_70 rfl (lv_at hl 0 rfl) ?_
  refine z_iconst hx hb dX2_count_71 ?_
  refine z_callI X hS (m2_fails (⟨by decide, by decide⟩) hM2 hw) gv2_257 hy2_fails rfl (by omega) (by decide) (sbs_sub rfl) hl.1 (Nat.le_of_ble_eq_true rfl) dX2_count_72 rfl (fun x4 V6 Z9 h5 hM7 hw P8 H locs c1 s1 hP hS => ?_)
  obtain ⟨rfl, hw⟩ := hw
  exact z_ri X hS hM7 h5 ⟨rfl, hw⟩ dX2_count_75
end WALK
