set_option maxRecDepth 100000
theorem dX2_lastly_0 : decode cX2_lastly 0 = .ok (.aload_n 0, 1) := by decide +kernel
theorem dX2_lastly_1 : decode cX2_lastly 1 = .ok (.iconst 0, 1) := by decide +kernel
theorem dX2_lastly_2 : decode cX2_lastly 2 = .ok (.putfield 131, 3) := by decide +kernel
theorem dX2_lastly_5 : decode cX2_lastly 5 = .ok (.aload_n 0, 1) := by decide +kernel
theorem dX2_lastly_6 : decode cX2_lastly 6 = .ok (.iload_n 1, 1) := by decide +kernel
theorem dX2_lastly_7 : decode cX2_lastly 7 = .ok (.iconst 0, 1) := by decide +kernel
theorem dX2_lastly_8 : decode cX2_lastly 8 = .ok (.invokevirtual 179, 3) := by decide +kernel
theorem dX2_lastly_11 : decode cX2_lastly 11 = .ok (.ifCond .eq 16, 3) := by decide +kernel
theorem dX2_lastly_14 : decode cX2_lastly 14 = .ok (.iload_n 2, 1) := by decide +kernel
theorem dX2_lastly_15 : decode cX2_lastly 15 = .ok (.iconst (-1), 1) := by decide +kernel
theorem dX2_lastly_16 : decode cX2_lastly 16 = .ok (.if_icmp .eq 17, 3) := by decide +kernel
theorem dX2_lastly_19 : decode cX2_lastly 19 = .ok (.aload_n 0, 1) := by decide +kernel
theorem dX2_lastly_20 : decode cX2_lastly 20 = .ok (.iload_n 2, 1) := by decide +kernel
theorem dX2_lastly_21 : decode cX2_lastly 21 = .ok (.invokevirtual 266, 3) := by decide +kernel
theorem dX2_lastly_24 : decode cX2_lastly 24 = .ok (.ifCond .ne 9, 3) := by decide +kernel
theorem dX2_lastly_27 : decode cX2_lastly 27 = .ok (.aload_n 0, 1) := by decide +kernel
theorem dX2_lastly_28 : decode cX2_lastly 28 = .ok (.iconst 1, 1) := by decide +kernel
theorem dX2_lastly_29 : decode cX2_lastly 29 = .ok (.invokevirtual 257, 3) := by decide +kernel
theorem dX2_lastly_32 : decode cX2_lastly 32 = .ok (.ireturn, 1) := by decide +kernel
theorem dX2_lastly_33 : decode cX2_lastly 33 = .ok (.aload_n 0, 1) := by decide +kernel
theorem dX2_lastly_34 : decode cX2_lastly 34 = .ok (.bipush 8, 2) := by decide +kernel
theorem dX2_lastly_36 : decode cX2_lastly 36 = .ok (.invokevirtual 254, 3) := by decide +kernel
theorem dX2_lastly_39 : decode cX2_lastly 39 = .ok (.ifCond .eq 9, 3) := by decide +kernel
theorem dX2_lastly_42 : decode cX2_lastly 42 = .ok (.aload_n 0, 1) := by decide +kernel
theorem dX2_lastly_43 : decode cX2_lastly 43 = .ok (.iconst 2, 1) := by decide +kernel
theorem dX2_lastly_44 : decode cX2_lastly 44 = .ok (.invokevirtual 257, 3) := by decide +kernel
theorem dX2_lastly_47 : decode cX2_lastly 47 = .ok (.ireturn, 1) := by decide +kernel
theorem dX2_lastly_48 : decode cX2_lastly 48 = .ok (.aload_n 0, 1) := by decide +kernel
theorem dX2_lastly_49 : decode cX2_lastly 49 = .ok (.bipush (-2), 2) := by decide +kernel
theorem dX2_lastly_51 : decode cX2_lastly 51 = .ok (.iload_n 1, 1) := by decide +kernel
theorem dX2_lastly_52 : decode cX2_lastly 52 = .ok (.isub, 1) := by decide +kernel
theorem dX2_lastly_53 : decode cX2_lastly 53 = .ok (.iload_n 2, 1) := by decide +kernel
theorem dX2_lastly_54 : decode cX2_lastly 54 = .ok (.iconst (-1), 1) := by decide +kernel
theorem dX2_lastly_55 : decode cX2_lastly 55 = .ok (.if_icmp .ne 7, 3) := by decide +kernel
theorem dX2_lastly_58 : decode cX2_lastly 58 = .ok (.iconst 0, 1) := by decide +kernel
theorem dX2_lastly_59 : decode cX2_lastly 59 = .ok (.goto 5, 3) := by decide +kernel
theorem dX2_lastly_62 : decode cX2_lastly 62 = .ok (.bipush 8, 2) := by decide +kernel
theorem dX2_lastly_64 : decode cX2_lastly 64 = .ok (.iload_n 2, 1) := by decide +kernel
theorem dX2_lastly_65 : decode cX2_lastly 65 = .ok (.iload_n 2, 1) := by decide +kernel
theorem dX2_lastly_66 : decode cX2_lastly 66 = .ok (.iconst (-1), 1) := by decide +kernel
theorem dX2_lastly_67 : decode cX2_lastly 67 = .ok (.if_icmp .ne 7, 3) := by decide +kernel
theorem dX2_lastly_70 : decode cX2_lastly 70 = .ok (.iconst 0, 1) := by decide +kernel
theorem dX2_lastly_71 : decode cX2_lastly 71 = .ok (.goto 5, 3) := by decide +kernel
theorem dX2_lastly_74 : decode cX2_lastly 74 = .ok (.bipush 9, 2) := by decide +kernel
theorem dX2_lastly_76 : decode cX2_lastly 76 = .ok (.iload_n 2, 1) := by decide +kernel
theorem dX2_lastly_77 : decode cX2_lastly 77 = .ok (.invokevirtual 220, 3) := by decide +kernel
theorem dX2_lastly_80 : decode cX2_lastly 80 = .ok (.invokestatic 155, 3) := by decide +kernel
theorem dX2_lastly_83 : decode cX2_lastly 83 = .ok (.ireturn, 1) := by decide +kernel
theorem dX2_wrap_0 : decode cX2_wrap 0 = .ok (.aload_n 0, 1) := by decide +kernel
theorem dX2_wrap_1 : decode cX2_wrap 1 = .ok (.iconst 0, 1) := by decide +kernel
theorem dX2_wrap_2 : decode cX2_wrap 2 = .ok (.putfield 131, 3) := by decide +kernel
theorem dX2_wrap_5 : decode cX2_wrap 5 = .ok (.aload_n 0, 1) := by decide +kernel
theorem dX2_wrap_6 : decode cX2_wrap 6 = .ok (.iload_n 1, 1) := by decide +kernel
theorem dX2_wrap_7 : decode cX2_wrap 7 = .ok (.invokevirtual 260, 3) := by decide +kernel
theorem dX2_wrap_10 : decode cX2_wrap 10 = .ok (.ifCond .ne 9, 3) := by decide +kernel
theorem dX2_wrap_13 : decode cX2_wrap 13 = .ok (.aload_n 0, 1) := by decide +kernel
theorem dX2_wrap_14 : decode cX2_wrap 14 = .ok (.iconst 1, 1) := by decide +kernel
theorem dX2_wrap_15 : decode cX2_wrap 15 = .ok (.invokevirtual 257, 3) := by decide +kernel
theorem dX2_wrap_18 : decode cX2_wrap 18 = .ok (.ireturn, 1) := by decide +kernel
theorem dX2_wrap_19 : decode cX2_wrap 19 = .ok (.aload_n 0, 1) := by decide +kernel
theorem dX2_wrap_20 : decode cX2_wrap 20 = .ok (.bipush 8, 2) := by decide +kernel
theorem dX2_wrap_22 : decode cX2_wrap 22 = .ok (.invokevirtual 254, 3) := by decide +kernel
theorem dX2_wrap_25 : decode cX2_wrap 25 = .ok (.ifCond .eq 9, 3) := by decide +kernel
theorem dX2_wrap_28 : decode cX2_wrap 28 = .ok (.aload_n 0, 1) := by decide +kernel
theorem dX2_wrap_29 : decode cX2_wrap 29 = .ok (.iconst 2, 1) := by decide +kernel
theorem dX2_wrap_30 : decode cX2_wrap 30 = .ok (.invokevirtual 257, 3) := by decide +kernel
theorem dX2_wrap_33 : decode cX2_wrap 33 = .ok (.ireturn, 1) := by decide +kernel
theorem dX2_wrap_34 : decode cX2_wrap 34 = .ok (.aload_n 0, 1) := by decide +kernel
theorem dX2_wrap_35 : decode cX2_wrap 35 = .ok (.iload_n 1, 1) := by decide +kernel
theorem dX2_wrap_36 : decode cX2_wrap 36 = .ok (.invokevirtual 214, 3) := by decide +kernel
theorem dX2_wrap_39 : decode cX2_wrap 39 = .ok (.invokestatic 155, 3) := by decide +kernel
theorem dX2_wrap_42 : decode cX2_wrap 42 = .ok (.ireturn, 1) := by decide +kernel
theorem dX2_broken_0 : decode cX2_broken 0 = .ok (.aload_n 0, 1) := by decide +kernel
theorem dX2_broken_1 : decode cX2_broken 1 = .ok (.iconst 0, 1) := by decide +kernel
theorem dX2_broken_2 : decode cX2_broken 2 = .ok (.putfield 131, 3) := by decide +kernel
theorem dX2_broken_5 : decode cX2_broken 5 = .ok (.aload_n 0, 1) := by decide +kernel
theorem dX2_broken_6 : decode cX2_broken 6 = .ok (.iload_n 1, 1) := by decide +kernel
theorem dX2_broken_7 : decode cX2_broken 7 = .ok (.invokevirtual 260, 3) := by decide +kernel
theorem dX2_broken_10 : decode cX2_broken 10 = .ok (.ifCond .ne 9, 3) := by decide +kernel
theorem dX2_broken_13 : decode cX2_broken 13 = .ok (.aload_n 0, 1) := by decide +kernel
theorem dX2_broken_14 : decode cX2_broken 14 = .ok (.iconst 1, 1) := by decide +kernel
theorem dX2_broken_15 : decode cX2_broken 15 = .ok (.invokevirtual 257, 3) := by decide +kernel
theorem dX2_broken_18 : decode cX2_broken 18 = .ok (.ireturn, 1) := by decide +kernel
theorem dX2_broken_19 : decode cX2_broken 19 = .ok (.aload_n 0, 1) := by decide +kernel
theorem dX2_broken_20 : decode cX2_broken 20 = .ok (.bipush 8, 2) := by decide +kernel
theorem dX2_broken_22 : decode cX2_broken 22 = .ok (.invokevirtual 254, 3) := by decide +kernel
theorem dX2_broken_25 : decode cX2_broken 25 = .ok (.ifCond .eq 9, 3) := by decide +kernel
theorem dX2_broken_28 : decode cX2_broken 28 = .ok (.aload_n 0, 1) := by decide +kernel
theorem dX2_broken_29 : decode cX2_broken 29 = .ok (.iconst 2, 1) := by decide +kernel
theorem dX2_broken_30 : decode cX2_broken 30 = .ok (.invokevirtual 257, 3) := by decide +kernel
theorem dX2_broken_33 : decode cX2_broken 33 = .ok (.ireturn, 1) := by decide +kernel
theorem dX2_broken_34 : decode cX2_broken 34 = .ok (.aload_n 0, 1) := by decide +kernel
theorem dX2_broken_35 : decode cX2_broken 35 = .ok (.invokevirtual 171, 3) := by decide +kernel
theorem dX2_broken_38 : decode cX2_broken 38 = .ok (.istore_n 2, 1) := by decide +kernel
theorem dX2_broken_39 : decode cX2_broken 39 = .ok (.aload_n 0, 1) := by decide +kernel
theorem dX2_broken_40 : decode cX2_broken 40 = .ok (.iload_n 2, 1) := by decide +kernel
theorem dX2_broken_41 : decode cX2_broken 41 = .ok (.iload_n 1, 1) := by decide +kernel
theorem dX2_broken_42 : decode cX2_broken 42 = .ok (.invokevirtual 197, 3) := by decide +kernel
theorem dX2_broken_45 : decode cX2_broken 45 = .ok (.aload_n 0, 1) := by decide +kernel
theorem dX2_broken_46 : decode cX2_broken 46 = .ok (.getfield 44, 3) := by decide +kernel
theorem dX2_broken_49 : decode cX2_broken 49 = .ok (.iload_n 2, 1) := by decide +kernel
theorem dX2_broken_50 : decode cX2_broken 50 = .ok (.iaload, 1) := by decide +kernel
theorem dX2_broken_51 : decode cX2_broken 51 = .ok (.invokestatic 155, 3) := by decide +kernel
theorem dX2_broken_54 : decode cX2_broken 54 = .ok (.ireturn, 1) := by decide +kernel
theorem dX2_item_0 : decode cX2_item 0 = .ok (.aload_n 0, 1) := by decide +kernel
theorem dX2_item_1 : decode cX2_item 1 = .ok (.iconst 0, 1) := by decide +kernel
theorem dX2_item_2 : decode cX2_item 2 = .ok (.putfield 131, 3) := by decide +kernel
theorem dX2_item_5 : decode cX2_item 5 = .ok (.aload_n 0, 1) := by decide +kernel
theorem dX2_item_6 : decode cX2_item 6 = .ok (.iload_n 1, 1) := by decide +kernel
theorem dX2_item_7 : decode cX2_item 7 = .ok (.invokevirtual 260, 3) := by decide +kernel
theorem dX2_item_10 : decode cX2_item 10 = .ok (.ifCond .ne 9, 3) := by decide +kernel
theorem dX2_item_13 : decode cX2_item 13 = .ok (.aload_n 0, 1) := by decide +kernel
theorem dX2_item_14 : decode cX2_item 14 = .ok (.iconst 1, 1) := by decide +kernel
theorem dX2_item_15 : decode cX2_item 15 = .ok (.invokevirtual 257, 3) := by decide +kernel
theorem dX2_item_18 : decode cX2_item 18 = .ok (.ireturn, 1) := by decide +kernel
theorem dX2_item_19 : decode cX2_item 19 = .ok (.aload_n 0, 1) := by decide +kernel
theorem dX2_item_20 : decode cX2_item 20 = .ok (.getfield 251, 3) := by decide +kernel
theorem dX2_item_23 : decode cX2_item 23 = .ok (.sipush 200, 3) := by decide +kernel
theorem dX2_item_26 : decode cX2_item 26 = .ok (.if_icmp .ne 9, 3) := by decide +kernel
theorem dX2_item_29 : decode cX2_item 29 = .ok (.aload_n 0, 1) := by decide +kernel
theorem dX2_item_30 : decode cX2_item 30 = .ok (.iconst 2, 1) := by decide +kernel
theorem dX2_item_31 : decode cX2_item 31 = .ok (.invokevirtual 257, 3) := by decide +kernel
theorem dX2_item_34 : decode cX2_item 34 = .ok (.ireturn, 1) := by decide +kernel
theorem dX2_item_35 : decode cX2_item 35 = .ok (.aload_n 0, 1) := by decide +kernel
theorem dX2_item_36 : decode cX2_item 36 = .ok (.getfield 98, 3) := by decide +kernel
theorem dX2_item_39 : decode cX2_item 39 = .ok (.aload_n 0, 1) := by decide +kernel
theorem dX2_item_40 : decode cX2_item 40 = .ok (.getfield 251, 3) := by decide +kernel
theorem dX2_item_43 : decode cX2_item 43 = .ok (.iload_n 1, 1) := by decide +kernel
theorem dX2_item_44 : decode cX2_item 44 = .ok (.iastore, 1) := by decide +kernel
theorem dX2_item_45 : decode cX2_item 45 = .ok (.aload_n 0, 1) := by decide +kernel
theorem dX2_item_46 : decode cX2_item 46 = .ok (.dup, 1) := by decide +kernel
theorem dX2_item_47 : decode cX2_item 47 = .ok (.getfield 251, 3) := by decide +kernel
theorem dX2_item_50 : decode cX2_item 50 = .ok (.iconst 1, 1) := by decide +kernel
theorem dX2_item_51 : decode cX2_item 51 = .ok (.iadd, 1) := by decide +kernel
theorem dX2_item_52 : decode cX2_item 52 = .ok (.putfield 251, 3) := by decide +kernel
theorem dX2_item_55 : decode cX2_item 55 = .ok (.aload_n 0, 1) := by decide +kernel
theorem dX2_item_56 : decode cX2_item 56 = .ok (.getfield 251, 3) := by decide +kernel
theorem dX2_item_59 : decode cX2_item 59 = .ok (.ireturn, 1) := by decide +kernel
theorem dX2_combine_0 : decode cX2_combine 0 = .ok (.aload_n 0, 1) := by decide +kernel
theorem dX2_combine_1 : decode cX2_combine 1 = .ok (.iconst 0, 1) := by decide +kernel
theorem dX2_combine_2 : decode cX2_combine 2 = .ok (.putfield 131, 3) := by decide +kernel
theorem dX2_combine_5 : decode cX2_combine 5 = .ok (.iload_n 1, 1) := by decide +kernel
theorem dX2_combine_6 : decode cX2_combine 6 = .ok (.ifCond .lt 8, 3) := by decide +kernel
theorem dX2_combine_9 : decode cX2_combine 9 = .ok (.iload_n 1, 1) := by decide +kernel
theorem dX2_combine_10 : decode cX2_combine 10 = .ok (.iconst 3, 1) := by decide +kernel
theorem dX2_combine_11 : decode cX2_combine 11 = .ok (.if_icmp .le 9, 3) := by decide +kernel
theorem dX2_combine_14 : decode cX2_combine 14 = .ok (.aload_n 0, 1) := by decide +kernel
theorem dX2_combine_15 : decode cX2_combine 15 = .ok (.iconst 1, 1) := by decide +kernel
theorem dX2_combine_16 : decode cX2_combine 16 = .ok (.invokevirtual 257, 3) := by decide +kernel
theorem dX2_combine_19 : decode cX2_combine 19 = .ok (.ireturn, 1) := by decide +kernel
theorem dX2_combine_20 : decode cX2_combine 20 = .ok (.aload_n 0, 1) := by decide +kernel
theorem dX2_combine_21 : decode cX2_combine 21 = .ok (.bipush 8, 2) := by decide +kernel
theorem dX2_combine_23 : decode cX2_combine 23 = .ok (.iconst 2, 1) := by decide +kernel
theorem dX2_combine_24 : decode cX2_combine 24 = .ok (.aload_n 0, 1) := by decide +kernel
theorem dX2_combine_25 : decode cX2_combine 25 = .ok (.getfield 251, 3) := by decide +kernel
theorem dX2_combine_28 : decode cX2_combine 28 = .ok (.imul, 1) := by decide +kernel
theorem dX2_combine_29 : decode cX2_combine 29 = .ok (.iadd, 1) := by decide +kernel
theorem dX2_combine_30 : decode cX2_combine 30 = .ok (.invokevirtual 254, 3) := by decide +kernel
theorem dX2_combine_33 : decode cX2_combine 33 = .ok (.ifCond .eq 9, 3) := by decide +kernel
theorem dX2_combine_36 : decode cX2_combine 36 = .ok (.aload_n 0, 1) := by decide +kernel
theorem dX2_combine_37 : decode cX2_combine 37 = .ok (.iconst 2, 1) := by decide +kernel
theorem dX2_combine_38 : decode cX2_combine 38 = .ok (.invokevirtual 257, 3) := by decide +kernel
theorem dX2_combine_41 : decode cX2_combine 41 = .ok (.ireturn, 1) := by decide +kernel
theorem dX2_combine_42 : decode cX2_combine 42 = .ok (.aload_n 0, 1) := by decide +kernel
theorem dX2_combine_43 : decode cX2_combine 43 = .ok (.invokevirtual 171, 3) := by decide +kernel
theorem dX2_combine_46 : decode cX2_combine 46 = .ok (.istore_n 2, 1) := by decide +kernel
theorem dX2_combine_47 : decode cX2_combine 47 = .ok (.aload_n 0, 1) := by decide +kernel
theorem dX2_combine_48 : decode cX2_combine 48 = .ok (.invokevirtual 269, 3) := by decide +kernel
theorem dX2_combine_51 : decode cX2_combine 51 = .ok (.istore_n 3, 1) := by decide +kernel
theorem dX2_combine_52 : decode cX2_combine 52 = .ok (.aload_n 0, 1) := by decide +kernel
theorem dX2_combine_53 : decode cX2_combine 53 = .ok (.getfield 119, 3) := by decide +kernel
theorem dX2_combine_56 : decode cX2_combine 56 = .ok (.iload_n 3, 1) := by decide +kernel
theorem dX2_combine_57 : decode cX2_combine 57 = .ok (.iload_n 2, 1) := by decide +kernel
theorem dX2_combine_58 : decode cX2_combine 58 = .ok (.iastore, 1) := by decide +kernel
theorem dX2_combine_59 : decode cX2_combine 59 = .ok (.aload_n 0, 1) := by decide +kernel
theorem dX2_combine_60 : decode cX2_combine 60 = .ok (.getfield 116, 3) := by decide +kernel
theorem dX2_combine_63 : decode cX2_combine 63 = .ok (.iload_n 3, 1) := by decide +kernel
theorem dX2_combine_64 : decode cX2_combine 64 = .ok (.iconst 1, 1) := by decide +kernel
theorem dX2_combine_65 : decode cX2_combine 65 = .ok (.iastore, 1) := by decide +kernel
theorem dX2_combine_66 : decode cX2_combine 66 = .ok (.iconst 0, 1) := by decide +kernel
theorem dX2_combine_67 : decode cX2_combine 67 = .ok (.istore 4, 2) := by decide +kernel
theorem dX2_combine_69 : decode cX2_combine 69 = .ok (.iload 4, 2) := by decide +kernel
theorem dX2_combine_71 : decode cX2_combine 71 = .ok (.aload_n 0, 1) := by decide +kernel
theorem dX2_combine_72 : decode cX2_combine 72 = .ok (.getfield 113, 3) := by decide +kernel
theorem dX2_combine_75 : decode cX2_combine 75 = .ok (.iload_n 3, 1) := by decide +kernel
theorem dX2_combine_76 : decode cX2_combine 76 = .ok (.iaload, 1) := by decide +kernel
theorem dX2_combine_77 : decode cX2_combine 77 = .ok (.if_icmp .ge 129, 3) := by decide +kernel
theorem dX2_combine_80 : decode cX2_combine 80 = .ok (.aload_n 0, 1) := by decide +kernel
theorem dX2_combine_81 : decode cX2_combine 81 = .ok (.getfield 110, 3) := by decide +kernel
theorem dX2_combine_84 : decode cX2_combine 84 = .ok (.iload_n 3, 1) := by decide +kernel
theorem dX2_combine_85 : decode cX2_combine 85 = .ok (.iaload, 1) := by decide +kernel
theorem dX2_combine_86 : decode cX2_combine 86 = .ok (.iload 4, 2) := by decide +kernel
theorem dX2_combine_88 : decode cX2_combine 88 = .ok (.iadd, 1) := by decide +kernel
theorem dX2_combine_89 : decode cX2_combine 89 = .ok (.istore 5, 2) := by decide +kernel
theorem dX2_combine_91 : decode cX2_combine 91 = .ok (.aload_n 0, 1) := by decide +kernel
theorem dX2_combine_92 : decode cX2_combine 92 = .ok (.aload_n 0, 1) := by decide +kernel
theorem dX2_combine_93 : decode cX2_combine 93 = .ok (.getfield 101, 3) := by decide +kernel
theorem dX2_combine_96 : decode cX2_combine 96 = .ok (.iload 5, 2) := by decide +kernel
theorem dX2_combine_98 : decode cX2_combine 98 = .ok (.iaload, 1) := by decide +kernel
theorem dX2_combine_99 : decode cX2_combine 99 = .ok (.invokevirtual 214, 3) := by decide +kernel
theorem dX2_combine_102 : decode cX2_combine 102 = .ok (.istore 6, 2) := by decide +kernel
theorem dX2_combine_104 : decode cX2_combine 104 = .ok (.iload_n 1, 1) := by decide +kernel
theorem dX2_combine_105 : decode cX2_combine 105 = .ok (.iconst 3, 1) := by decide +kernel
theorem dX2_combine_106 : decode cX2_combine 106 = .ok (.if_icmp .ge 21, 3) := by decide +kernel
theorem dX2_combine_109 : decode cX2_combine 109 = .ok (.aload_n 0, 1) := by decide +kernel
theorem dX2_combine_110 : decode cX2_combine 110 = .ok (.getfield 101, 3) := by decide +kernel
theorem dX2_combine_113 : decode cX2_combine 113 = .ok (.iload 5, 2) := by decide +kernel
theorem dX2_combine_115 : decode cX2_combine 115 = .ok (.iconst (-1), 1) := by decide +kernel
theorem dX2_combine_116 : decode cX2_combine 116 = .ok (.iastore, 1) := by decide +kernel
theorem dX2_combine_117 : decode cX2_combine 117 = .ok (.aload_n 0, 1) := by decide +kernel
theorem dX2_combine_118 : decode cX2_combine 118 = .ok (.getfield 116, 3) := by decide +kernel
theorem dX2_combine_121 : decode cX2_combine 121 = .ok (.iload_n 3, 1) := by decide +kernel
theorem dX2_combine_122 : decode cX2_combine 122 = .ok (.dup2, 1) := by decide +kernel
theorem dX2_combine_123 : decode cX2_combine 123 = .ok (.iaload, 1) := by decide +kernel
theorem dX2_combine_124 : decode cX2_combine 124 = .ok (.iconst 1, 1) := by decide +kernel
theorem dX2_combine_125 : decode cX2_combine 125 = .ok (.iadd, 1) := by decide +kernel
theorem dX2_combine_126 : decode cX2_combine 126 = .ok (.iastore, 1) := by decide +kernel
theorem dX2_combine_127 : decode cX2_combine 127 = .ok (.iload_n 1, 1) := by decide +kernel
theorem dX2_combine_128 : decode cX2_combine 128 = .ok (.ifCond .ne 18, 3) := by decide +kernel
theorem dX2_combine_131 : decode cX2_combine 131 = .ok (.aload_n 0, 1) := by decide +kernel
theorem dX2_combine_132 : decode cX2_combine 132 = .ok (.iload 6, 2) := by decide +kernel
theorem dX2_combine_134 : decode cX2_combine 134 = .ok (.iconst 4, 1) := by decide +kernel
theorem dX2_combine_135 : decode cX2_combine 135 = .ok (.iload 5, 2) := by decide +kernel
theorem dX2_combine_137 : decode cX2_combine 137 = .ok (.iconst 3, 1) := by decide +kernel
theorem dX2_combine_138 : decode cX2_combine 138 = .ok (.iload_n 2, 1) := by decide +kernel
theorem dX2_combine_139 : decode cX2_combine 139 = .ok (.invokevirtual 220, 3) := by decide +kernel
theorem dX2_combine_142 : decode cX2_combine 142 = .ok (.pop, 1) := by decide +kernel
theorem dX2_combine_143 : decode cX2_combine 143 = .ok (.goto 57, 3) := by decide +kernel
theorem dX2_combine_146 : decode cX2_combine 146 = .ok (.iload_n 1, 1) := by decide +kernel
theorem dX2_combine_147 : decode cX2_combine 147 = .ok (.iconst 1, 1) := by decide +kernel
theorem dX2_combine_148 : decode cX2_combine 148 = .ok (.if_icmp .ne 20, 3) := by decide +kernel
theorem dX2_combine_151 : decode cX2_combine 151 = .ok (.aload_n 0, 1) := by decide +kernel
theorem dX2_combine_152 : decode cX2_combine 152 = .ok (.iload 6, 2) := by decide +kernel
theorem dX2_combine_154 : decode cX2_combine 154 = .ok (.iconst 5, 1) := by decide +kernel
theorem dX2_combine_155 : decode cX2_combine 155 = .ok (.iload 5, 2) := by decide +kernel
theorem dX2_combine_157 : decode cX2_combine 157 = .ok (.bipush 6, 2) := by decide +kernel
theorem dX2_combine_159 : decode cX2_combine 159 = .ok (.iload 5, 2) := by decide +kernel
theorem dX2_combine_161 : decode cX2_combine 161 = .ok (.invokevirtual 220, 3) := by decide +kernel
theorem dX2_combine_164 : decode cX2_combine 164 = .ok (.pop, 1) := by decide +kernel
theorem dX2_combine_165 : decode cX2_combine 165 = .ok (.goto 35, 3) := by decide +kernel
theorem dX2_combine_168 : decode cX2_combine 168 = .ok (.iload_n 1, 1) := by decide +kernel
theorem dX2_combine_169 : decode cX2_combine 169 = .ok (.iconst 2, 1) := by decide +kernel
theorem dX2_combine_170 : decode cX2_combine 170 = .ok (.if_icmp .ne 19, 3) := by decide +kernel
theorem dX2_combine_173 : decode cX2_combine 173 = .ok (.aload_n 0, 1) := by decide +kernel
theorem dX2_combine_174 : decode cX2_combine 174 = .ok (.iload 6, 2) := by decide +kernel
theorem dX2_combine_176 : decode cX2_combine 176 = .ok (.iconst 2, 1) := by decide +kernel
theorem dX2_combine_177 : decode cX2_combine 177 = .ok (.iload_n 2, 1) := by decide +kernel
theorem dX2_combine_178 : decode cX2_combine 178 = .ok (.bipush 7, 2) := by decide +kernel
theorem dX2_combine_180 : decode cX2_combine 180 = .ok (.iload 5, 2) := by decide +kernel
theorem dX2_combine_182 : decode cX2_combine 182 = .ok (.invokevirtual 220, 3) := by decide +kernel
theorem dX2_combine_185 : decode cX2_combine 185 = .ok (.pop, 1) := by decide +kernel
theorem dX2_combine_186 : decode cX2_combine 186 = .ok (.goto 14, 3) := by decide +kernel
theorem dX2_combine_189 : decode cX2_combine 189 = .ok (.aload_n 0, 1) := by decide +kernel
theorem dX2_combine_190 : decode cX2_combine 190 = .ok (.iload 6, 2) := by decide +kernel
theorem dX2_combine_192 : decode cX2_combine 192 = .ok (.iconst 2, 1) := by decide +kernel
theorem dX2_combine_193 : decode cX2_combine 193 = .ok (.iload_n 2, 1) := by decide +kernel
theorem dX2_combine_194 : decode cX2_combine 194 = .ok (.iconst 3, 1) := by decide +kernel
theorem dX2_combine_195 : decode cX2_combine 195 = .ok (.iload_n 2, 1) := by decide +kernel
theorem dX2_combine_196 : decode cX2_combine 196 = .ok (.invokevirtual 220, 3) := by decide +kernel
theorem dX2_combine_199 : decode cX2_combine 199 = .ok (.pop, 1) := by decide +kernel
theorem dX2_combine_200 : decode cX2_combine 200 = .ok (.iinc 4 1, 3) := by decide +kernel
theorem dX2_combine_203 : decode cX2_combine 203 = .ok (.goto (-134), 3) := by decide +kernel
theorem dX2_combine_206 : decode cX2_combine 206 = .ok (.aload_n 0, 1) := by decide +kernel
theorem dX2_combine_207 : decode cX2_combine 207 = .ok (.getfield 116, 3) := by decide +kernel
theorem dX2_combine_210 : decode cX2_combine 210 = .ok (.iload_n 3, 1) := by decide +kernel
theorem dX2_combine_211 : decode cX2_combine 211 = .ok (.dup2, 1) := by decide +kernel
theorem dX2_combine_212 : decode cX2_combine 212 = .ok (.iaload, 1) := by decide +kernel
theorem dX2_combine_213 : decode cX2_combine 213 = .ok (.iconst 1, 1) := by decide +kernel
theorem dX2_combine_214 : decode cX2_combine 214 = .ok (.isub, 1) := by decide +kernel
theorem dX2_combine_215 : decode cX2_combine 215 = .ok (.iastore, 1) := by decide +kernel
theorem dX2_combine_216 : decode cX2_combine 216 = .ok (.iload_n 1, 1) := by decide +kernel
theorem dX2_combine_217 : decode cX2_combine 217 = .ok (.iconst 3, 1) := by decide +kernel
theorem dX2_combine_218 : decode cX2_combine 218 = .ok (.if_icmp .ge 27, 3) := by decide +kernel
theorem dX2_combine_221 : decode cX2_combine 221 = .ok (.aload_n 0, 1) := by decide +kernel
theorem dX2_combine_222 : decode cX2_combine 222 = .ok (.getfield 116, 3) := by decide +kernel
theorem dX2_combine_225 : decode cX2_combine 225 = .ok (.iload_n 3, 1) := by decide +kernel
theorem dX2_combine_226 : decode cX2_combine 226 = .ok (.iaload, 1) := by decide +kernel
theorem dX2_combine_227 : decode cX2_combine 227 = .ok (.ifCond .ne 18, 3) := by decide +kernel
theorem dX2_combine_230 : decode cX2_combine 230 = .ok (.aload_n 0, 1) := by decide +kernel
theorem dX2_combine_231 : decode cX2_combine 231 = .ok (.iload_n 3, 1) := by decide +kernel
theorem dX2_combine_232 : decode cX2_combine 232 = .ok (.iload_n 1, 1) := by decide +kernel
theorem dX2_combine_233 : decode cX2_combine 233 = .ok (.iconst 2, 1) := by decide +kernel
theorem dX2_combine_234 : decode cX2_combine 234 = .ok (.if_icmp .ne 7, 3) := by decide +kernel
theorem dX2_combine_237 : decode cX2_combine 237 = .ok (.iconst 1, 1) := by decide +kernel
theorem dX2_combine_238 : decode cX2_combine 238 = .ok (.goto 4, 3) := by decide +kernel
theorem dX2_combine_241 : decode cX2_combine 241 = .ok (.iconst 0, 1) := by decide +kernel
theorem dX2_combine_242 : decode cX2_combine 242 = .ok (.invokevirtual 224, 3) := by decide +kernel
theorem dX2_combine_245 : decode cX2_combine 245 = .ok (.aload_n 0, 1) := by decide +kernel
theorem dX2_combine_246 : decode cX2_combine 246 = .ok (.getfield 44, 3) := by decide +kernel
theorem dX2_combine_249 : decode cX2_combine 249 = .ok (.iload_n 2, 1) := by decide +kernel
theorem dX2_combine_250 : decode cX2_combine 250 = .ok (.iaload, 1) := by decide +kernel
theorem dX2_combine_251 : decode cX2_combine 251 = .ok (.invokestatic 155, 3) := by decide +kernel
theorem dX2_combine_254 : decode cX2_combine 254 = .ok (.ireturn, 1) := by decide +kernel
section WALK
variable {p : Program} {l : Launch} {e : Env} {R : Room} {s : State} {m : MethodId} {args : Array Value} {below : List Frame} {meth : Method} {c : Code} {H : Heap} {locs : List Loc} {cells slots : Nat}
variable {E : Ev} {h0 : Nat} {P0 : Le} {kc0 ks0 : Nat} {S0 : State} {A : Nat → Prop} {P : Le} {ls : Array Slot}
theorem m2_lastly_J27 {V : Mv} {Q : Int → Mv → Prop} {PX : Px} (X : Cx E 1 h0 P0 kc0 ks0 S0 A p l R s m args meth c cX2_lastly 3 (some .int) 4) (hM : inM V) (hS : HS E 1 h0 P0 kc0 ks0 (sbs []) A s.heap P (toC V) ZM H locs cells slots) (hl : lv_has ls 3 [(0, .ref h0)]) (hw : w2_lastly_J27  V Q) : W p l e R s m args below meth c H locs cells slots (MQx below (QT E 1 h0 true P0 kc0 ks0 (sbs []) A (QL (fun x V1 Z1 => Z1 = ZM ∧ Q x V1)) (PL PX) s) s) (F0 m 27 ls []) := by
  have hx := X.2.1
  have hb := X.2.2.1
  unfold w2_lastly_J27 at hw
  refine lv_aload_n hx hb dX2_lastly_27 rfl (lv_at hl 0 rfl) ?_
  refine z_iconst hx hb dX2_lastly_28 ?_
  refine z_callI X hS (m2_fails (⟨by decide, by decide⟩) hM hw) gv2_257 hy2_fails rfl (by omega) (by decide) (sbs_sub rfl) hl.1 (Nat.le_of_ble_eq_true rfl) dX2_lastly_29 rfl (fun x1 V3 Z6 h2 hM4 hw P5 H locs c1 s1 hP hS => ?_)
  obtain ⟨rfl, hw⟩ := hw
  exact z_ri X hS hM4 h2 ⟨rfl, hw⟩ dX2_lastly_32
theorem m2_lastly_J76 {a2 : Int} {b1 : Int} {b2 : Int} {b3 : Int} {b4 : Int} {V : Mv} {Q : Int → Mv → Prop} {PX : Px} (X : Cx E 1 h0 P0 kc0 ks0 S0 A p l R s m args meth c cX2_lastly 3 (some .int) 4) (hM : inM V) (hS : HS E 1 h0 P0 kc0 ks0 (sbs []) A s.heap P (toC V) ZM H locs cells slots) (hl : lv_has ls 3 [(2, .int (I3 a2))]) (r2 : inR a2) (sr1 : inR b1) (sr2 : inR b2) (sr3 : inR b3) (sr4 : inR b4) (hw : w2_lastly_J76 a2 b1 b2 b3 b4 V Q) : W p l e R s m args below meth c H locs cells slots (MQx below (QT E 1 h0 true P0 kc0 ks0 (sbs []) A (QL (fun x V1 Z1 => Z1 = ZM ∧ Q x V1)) (PL PX) s) s) (F0 m 76 ls [.int (I3 b4), .int (I3 b3), .int (I3 b2), .int (I3 b1), .ref h0]) := by
  have hx := X.2.1
  have hb := X.2.2.1
  unfold w2_lastly_J76 at hw
  refine lv_iload_n hx hb dX2_lastly_76 rfl (lv_at hl 0 rfl) ?_
  refine z_callI X hS (m2_then_2 sr1 sr2 sr3 sr4 r2 hM hw) gv2_220 hy2_then_2 rfl (by omega) (by decide) (sbs_sub rfl) hl.1 (Nat.le_of_ble_eq_true rfl) dX2_lastly_77 rfl (fun x7 V9 Z12 h8 hM10 hw P11 H locs c1 s1 hP hS => ?_)
  obtain ⟨rfl, hw⟩ := hw
  refine z_vo2 X hS hw gs2_155 (by omega) hl.1 (Nat.le_of_ble_eq_true rfl) dX2_lastly_80 (fun h13 hw => ?_)
  exact z_ri X hS hM10 h13 ⟨rfl, hw⟩ dX2_lastly_83
theorem m2_lastly_J64 {a2 : Int} {b1 : Int} {b2 : Int} {V : Mv} {Q : Int → Mv → Prop} {PX : Px} (X : Cx E 1 h0 P0 kc0 ks0 S0 A p l R s m args meth c cX2_lastly 3 (some .int) 4) (hM : inM V) (hS : HS E 1 h0 P0 kc0 ks0 (sbs []) A s.heap P (toC V) ZM H locs cells slots) (hl : lv_has ls 3 [(2, .int (I3 a2))]) (r2 : inR a2) (sr1 : inR b1) (sr2 : inR b2) (hw : w2_lastly_J64 a2 b1 b2 V Q) : W p l e R s m args below meth c H locs cells slots (MQx below (QT E 1 h0 true P0 kc0 ks0 (sbs []) A (QL (fun x V1 Z1 => Z1 = ZM ∧ Q x V1)) (PL PX) s) s) (F0 m 64 ls [.int (I3 b2), .int (I3 b1), .ref h0]) := by
  have hx := X.2.1
  have hb := X.2.2.1
  unfold w2_lastly_J64 at hw
  refine lv_iload_n hx hb dX2_lastly_64 rfl (lv_at hl 0 rfl) ?_
  refine lv_iload_n hx hb dX2_lastly_65 rfl (lv_at hl 0 rfl) ?_
  refine z_iconst hx hb dX2_lastly_66 ?_
  refine z_ine (tgt := 74) hx hb r2 (⟨by decide, by decide⟩) hw dX2_lastly_67 (by decide) (fun hc hw => ?_) (fun hc hw => ?_)
  · refine z_bipush hx hb dX2_lastly_74 (by decide +kernel) ?_
    exact m2_lastly_J76 X hM hS (lv_sub hl [0] rfl) r2 sr1 sr2 r2 (⟨by decide, by decide⟩) hw
  · refine z_iconst hx hb dX2_lastly_70 ?_
    refine lv_goto (tgt := 76) hx hb dX2_lastly_71 (by decide) ?_
    exact m2_lastly_J76 X hM hS (lv_sub hl [0] rfl) r2 sr1 sr2 r2 (⟨by decide, by decide⟩) hw
theorem m2_lastly_J33 {a1 : Int} {a2 : Int} {V : Mv} {Q : Int → Mv → Prop} {PX : Px} (X : Cx E 1 h0 P0 kc0 ks0 S0 A p l R s m args meth c cX2_lastly 3 (some .int) 4) (hM : inM V) (hS : HS E 1 h0 P0 kc0 ks0 (sbs []) A s.heap P (toC V) ZM H locs cells slots) (hl : lv_has ls 3 [(0, .ref h0), (1, .int (I3 a1)), (2, .int (I3 a2))]) (r1 : inR a1) (r2 : inR a2) (hw : w2_lastly_J33 a1 a2 V Q) : W p l e R s m args below meth c H locs cells slots (MQx below (QT E 1 h0 true P0 kc0 ks0 (sbs []) A (QL (fun x V1 Z1 => Z1 = ZM ∧ Q x V1)) (PL PX) s) s) (F0 m 33 ls []) := by
  have hx := X.2.1
  have hb := X.2.2.1
  unfold w2_lastly_J33 at hw
  refine lv_aload_n hx hb dX2_lastly_33 rfl (lv_at hl 0 rfl) ?_
  refine z_bipush hx hb dX2_lastly_34 (by decide +kernel) ?_
  refine z_callI X hS (m2_isFull (⟨by decide, by decide⟩) hM hw) gv2_254 hy2_isFull rfl (by omega) (by decide) (sbs_sub rfl) hl.1 (Nat.le_of_ble_eq_true rfl) dX2_lastly_36 rfl (fun x14 V16 Z19 h15 hM17 hw P18 H locs c1 s1 hP hS => ?_)
  obtain ⟨rfl, hw⟩ := hw
  refine z_zeq (tgt := 48) hx hb h15 hw dX2_lastly_39 (by decide) (fun hc hw => ?_) (fun hc hw => ?_)
  · refine lv_aload_n hx hb dX2_lastly_48 rfl (lv_at hl 0 rfl) ?_
    refine z_bipush hx hb dX2_lastly_49 (by decide +kernel) ?_
    refine lv_iload_n hx hb dX2_lastly_51 rfl (lv_at hl 1 rfl) ?_
    refine z_sub hx hb hw dX2_lastly_52 (fun h20 hw => ?_)
    refine lv_iload_n hx hb dX2_lastly_53 rfl (lv_at hl 2 rfl) ?_
    refine z_iconst hx hb dX2_lastly_54 ?_
    refine z_ine (tgt := 62) hx hb r2 (⟨by decide, by decide⟩) hw dX2_lastly_55 (by decide) (fun hc hw => ?_) (fun hc hw => ?_)
    · refine z_bipush hx hb dX2_lastly_62 (by decide +kernel) ?_
      exact m2_lastly_J64 X hM17 hS (lv_sub hl [2] rfl) r2 h20 (⟨by decide, by decide⟩) hw
    · refine z_iconst hx hb dX2_lastly_58 ?_
      refine lv_goto (tgt := 64) hx hb dX2_lastly_59 (by decide) ?_
      exact m2_lastly_J64 X hM17 hS (lv_sub hl [2] rfl) r2 h20 (⟨by decide, by decide⟩) hw
  · refine lv_aload_n hx hb dX2_lastly_42 rfl (lv_at hl 0 rfl) ?_
    refine z_iconst hx hb dX2_lastly_43 ?_
    refine z_callI X hS (m2_fails (⟨by decide, by decide⟩) hM17 hw) gv2_257 hy2_fails rfl (by omega) (by decide) (sbs_sub rfl) hl.1 (Nat.le_of_ble_eq_true rfl) dX2_lastly_44 rfl (fun x21 V23 Z26 h22 hM24 hw P25 H locs c1 s1 hP hS => ?_)
    obtain ⟨rfl, hw⟩ := hw
    exact z_ri X hS hM24 h22 ⟨rfl, hw⟩ dX2_lastly_47
theorem m2_lastly {a1 : Int} {a2 : Int} {V : Mv} {Q : Int → Mv → Prop} {PX : Px} (r1 : inR a1) (r2 : inR a2) (hM : inM V) (hw : w2_lastly a1 a2 V Q) : MT l S0 E 1 h0 yX2_lastly cX2_lastly 3 (some .int) 4 true (sbs []) [.int (I3 a1), .int (I3 a2)] (toC V) ZM (QL (fun x V1 Z1 => Z1 = ZM ∧ Q x V1)) (PL PX) := by
  refine mt_of Gk1 (by decide) rfl (Nat.le_of_ble_eq_true rfl) ?_
  intro p e s m below meth c A P ls X hS hl
  have hl : lv_has ls 3 [(0, .ref h0), (1, .int (I3 a1)), (2, .int (I3 a2))] := hl
  have hx := X.2.1
  have hb := X.2.2.1
  unfold w2_lastly at hw
  refine lv_aload_n hx hb dX2_lastly_0 rfl (lv_at hl 0 rfl) ?_
  refine z_iconst hx hb dX2_lastly_1 ?_
  refine z_pi X hS hM f2_0 p2_0 (⟨by decide, by decide⟩) hw dX2_lastly_2 (fun V27 hM28 hw H locs hS => ?_)
  refine lv_aload_n hx hb dX2_lastly_5 rfl (lv_at hl 0 rfl) ?_
  refine lv_iload_n hx hb dX2_lastly_6 rfl (lv_at hl 1 rfl) ?_
  refine z_iconst hx hb dX2_lastly_7 ?_
  refine z_callI X hS (m2_isKind r1 (⟨by decide, by decide⟩) hM28 hw) gv2_179 hy2_isKind rfl (by omega) (by decide) (sbs_sub rfl) hl.1 (Nat.le_of_ble_eq_true rfl) dX2_lastly_8 rfl (fun x29 V31 Z34 h30 hM32 hw P33 H locs c1 s1 hP hS => ?_)
  obtain ⟨rfl, hw⟩ := hw
  refine z_zeq (tgt := 27) hx hb h30 hw dX2_lastly_11 (by decide) (fun hc hw => ?_) (fun hc hw => ?_)
  · exact m2_lastly_J27 X hM32 hS (lv_sub hl [0] rfl)  hw
  · refine lv_iload_n hx hb dX2_lastly_14 rfl (lv_at hl 2 rfl) ?_
    refine z_iconst hx hb dX2_lastly_15 ?_
    refine z_ieq (tgt := 33) hx hb r2 (⟨by decide, by decide⟩) hw dX2_lastly_16 (by decide) (fun hc hw => ?_) (fun hc hw => ?_)
    · exact m2_lastly_J33 X hM32 hS (lv_sub hl [0, 1, 2] rfl) r1 r2 hw
    · refine lv_aload_n hx hb dX2_lastly_19 rfl (lv_at hl 0 rfl) ?_
      refine lv_iload_n hx hb dX2_lastly_20 rfl (lv_at hl 2 rfl) ?_
      refine z_callI X hS (m2_isHandler r2 hM32 hw) gv2_266 hy2_isHandler rfl (by omega) (by decide) (sbs_sub rfl) hl.1 (Nat.le_of_ble_eq_true rfl) dX2_lastly_21 rfl (fun x35 V37 Z40 h36 hM38 hw P39 H locs c1 s1 hP hS => ?_)
      obtain ⟨rfl, hw⟩ := hw
      refine z_zne (tgt := 33) hx hb h36 hw dX2_lastly_24 (by decide) (fun hc hw => ?_) (fun hc hw => ?_)
      · exact m2_lastly_J33 X hM38 hS (lv_sub hl [0, 1, 2] rfl) r1 r2 hw
      · exact m2_lastly_J27 X hM38 hS (lv_sub hl [0] rfl)  hw
theorem m2_wrap {a1 : Int} {V : Mv} {Q : Int → Mv → Prop} {PX : Px} (r1 : inR a1) (hM : inM V) (hw : w2_wrap a1 V Q) : MT l S0 E 1 h0 yX2_wrap cX2_wrap 2 (some .int) 5 true (sbs []) [.int (I3 a1)] (toC V) ZM (QL (fun x V1 Z1 => Z1 = ZM ∧ Q x V1)) (PL PX) := by
  refine mt_of Gk1 (by decide) rfl (Nat.le_of_ble_eq_true rfl) ?_
  intro p e s m below meth c A P ls X hS hl
  have hl : lv_has ls 2 [(0, .ref h0), (1, .int (I3 a1))] := hl
  have hx := X.2.1
  have hb := X.2.2.1
  unfold w2_wrap at hw
  refine lv_aload_n hx hb dX2_wrap_0 rfl (lv_at hl 0 rfl) ?_
  refine z_iconst hx hb dX2_wrap_1 ?_
  refine z_pi X hS hM f2_0 p2_0 (⟨by decide, by decide⟩) hw dX2_wrap_2 (fun V1 hM2 hw H locs hS => ?_)
  refine lv_aload_n hx hb dX2_wrap_5 rfl (lv_at hl 0 rfl) ?_
  refine lv_iload_n hx hb dX2_wrap_6 rfl (lv_at hl 1 rfl) ?_
  refine z_callI X hS (m2_isValue r1 hM2 hw) gv2_260 hy2_isValue rfl (by omega) (by decide) (sbs_sub rfl) hl.1 (Nat.le_of_ble_eq_true rfl) dX2_wrap_7 rfl (fun x3 V5 Z8 h4 hM6 hw P7 H locs c1 s1 hP hS => ?_)
  obtain ⟨rfl, hw⟩ := hw
  refine z_zne (tgt := 19) hx hb h4 hw dX2_wrap_10 (by decide) (fun hc hw => ?_) (fun hc hw => ?_)
  · refine lv_aload_n hx hb dX2_wrap_19 rfl (lv_at hl 0 rfl) ?_
    refine z_bipush hx hb dX2_wrap_20 (by decide +kernel) ?_
    refine z_callI X hS (m2_isFull (⟨by decide, by decide⟩) hM6 hw) gv2_254 hy2_isFull rfl (by omega) (by decide) (sbs_sub rfl) hl.1 (Nat.le_of_ble_eq_true rfl) dX2_wrap_22 rfl (fun x9 V11 Z14 h10 hM12 hw P13 H locs c1 s1 hP hS => ?_)
    obtain ⟨rfl, hw⟩ := hw
    refine z_zeq (tgt := 34) hx hb h10 hw dX2_wrap_25 (by decide) (fun hc hw => ?_) (fun hc hw => ?_)
    · refine lv_aload_n hx hb dX2_wrap_34 rfl (lv_at hl 0 rfl) ?_
      refine lv_iload_n hx hb dX2_wrap_35 rfl (lv_at hl 1 rfl) ?_
      refine z_callI X hS (m2_promiseOf r1 hM12 hw) gv2_214 hy2_promiseOf rfl (by omega) (by decide) (sbs_sub rfl) hl.1 (Nat.le_of_ble_eq_true rfl) dX2_wrap_36 rfl (fun x15 V17 Z20 h16 hM18 hw P19 H locs c1 s1 hP hS => ?_)
      obtain ⟨rfl, hw⟩ := hw
      refine z_vo2 X hS hw gs2_155 (by omega) hl.1 (Nat.le_of_ble_eq_true rfl) dX2_wrap_39 (fun h21 hw => ?_)
      exact z_ri X hS hM18 h21 ⟨rfl, hw⟩ dX2_wrap_42
    · refine lv_aload_n hx hb dX2_wrap_28 rfl (lv_at hl 0 rfl) ?_
      refine z_iconst hx hb dX2_wrap_29 ?_
      refine z_callI X hS (m2_fails (⟨by decide, by decide⟩) hM12 hw) gv2_257 hy2_fails rfl (by omega) (by decide) (sbs_sub rfl) hl.1 (Nat.le_of_ble_eq_true rfl) dX2_wrap_30 rfl (fun x22 V24 Z27 h23 hM25 hw P26 H locs c1 s1 hP hS => ?_)
      obtain ⟨rfl, hw⟩ := hw
      exact z_ri X hS hM25 h23 ⟨rfl, hw⟩ dX2_wrap_33
  · refine lv_aload_n hx hb dX2_wrap_13 rfl (lv_at hl 0 rfl) ?_
    refine z_iconst hx hb dX2_wrap_14 ?_
    refine z_callI X hS (m2_fails (⟨by decide, by decide⟩) hM6 hw) gv2_257 hy2_fails rfl (by omega) (by decide) (sbs_sub rfl) hl.1 (Nat.le_of_ble_eq_true rfl) dX2_wrap_15 rfl (fun x28 V30 Z33 h29 hM31 hw P32 H locs c1 s1 hP hS => ?_)
    obtain ⟨rfl, hw⟩ := hw
    exact z_ri X hS hM31 h29 ⟨rfl, hw⟩ dX2_wrap_18
theorem m2_broken {a1 : Int} {V : Mv} {Q : Int → Mv → Prop} {PX : Px} (r1 : inR a1) (hM : inM V) (hw : w2_broken a1 V Q) : MT l S0 E 1 h0 yX2_broken cX2_broken 3 (some .int) 4 true (sbs []) [.int (I3 a1)] (toC V) ZM (QL (fun x V1 Z1 => Z1 = ZM ∧ Q x V1)) (PL PX) := by
  refine mt_of Gk1 (by decide) rfl (Nat.le_of_ble_eq_true rfl) ?_
  intro p e s m below meth c A P ls X hS hl
  have hl : lv_has ls 3 [(0, .ref h0), (1, .int (I3 a1))] := hl
  have hx := X.2.1
  have hb := X.2.2.1
  unfold w2_broken at hw
  refine lv_aload_n hx hb dX2_broken_0 rfl (lv_at hl 0 rfl) ?_
  refine z_iconst hx hb dX2_broken_1 ?_
  refine z_pi X hS hM f2_0 p2_0 (⟨by decide, by decide⟩) hw dX2_broken_2 (fun V1 hM2 hw H locs hS => ?_)
  refine lv_aload_n hx hb dX2_broken_5 rfl (lv_at hl 0 rfl) ?_
  refine lv_iload_n hx hb dX2_broken_6 rfl (lv_at hl 1 rfl) ?_
  refine z_callI X hS (m2_isValue r1 hM2 hw) gv2_260 hy2_isValue rfl (by omega) (by decide) (sbs_sub rfl) hl.1 (Nat.le_of_ble_eq_true rfl) dX2_broken_7 rfl (fun x3 V5 Z8 h4 hM6 hw P7 H locs c1 s1 hP hS => ?_)
  obtain ⟨rfl, hw⟩ := hw
  refine z_zne (tgt := 19) hx hb h4 hw dX2_broken_10 (by decide) (fun hc hw => ?_) (fun hc hw => ?_)
  · refine lv_aload_n hx hb dX2_broken_19 rfl (lv_at hl 0 rfl) ?_
    refine z_bipush hx hb dX2_broken_20 (by decide +kernel) ?_
    refine z_callI X hS (m2_isFull (⟨by decide, by decide⟩) hM6 hw) gv2_254 hy2_isFull rfl (by omega) (by decide) (sbs_sub rfl) hl.1 (Nat.le_of_ble_eq_true rfl) dX2_broken_22 rfl (fun x9 V11 Z14 h10 hM12 hw P13 H locs c1 s1 hP hS => ?_)
    obtain ⟨rfl, hw⟩ := hw
    refine z_zeq (tgt := 34) hx hb h10 hw dX2_broken_25 (by decide) (fun hc hw => ?_) (fun hc hw => ?_)
    · refine lv_aload_n hx hb dX2_broken_34 rfl (lv_at hl 0 rfl) ?_
      refine z_callI X hS (m2_capability  hM12 hw) gv2_171 hy2_capability rfl (by omega) (by decide) (sbs_sub rfl) hl.1 (Nat.le_of_ble_eq_true rfl) dX2_broken_35 rfl (fun x15 V17 Z20 h16 hM18 hw P19 H locs c1 s1 hP hS => ?_)
      obtain ⟨rfl, hw⟩ := hw
      refine lv_istore_n (lv' := [(2, .int (I3 x15)), (0, .ref h0), (1, .int (I3 a1))]) hx hb dX2_broken_38 rfl hl (by decide) rfl (fun ls hl => ?_)
      refine lv_aload_n hx hb dX2_broken_39 rfl (lv_at hl 1 rfl) ?_
      refine lv_iload_n hx hb dX2_broken_40 rfl (lv_at hl 0 rfl) ?_
      refine lv_iload_n hx hb dX2_broken_41 rfl (lv_at hl 2 rfl) ?_
      refine z_callV X hS (m2_reject h16 r1 hM18 hw) gv2_197 hy2_reject rfl (by omega) (by decide) (sbs_sub rfl) hl.1 (Nat.le_of_ble_eq_true rfl) dX2_broken_42 rfl (fun x21 V23 Z26 h22 hM24 hw P25 H locs c1 s1 hP hS => ?_)
      obtain ⟨rfl, hw⟩ := hw
      refine lv_aload_n hx hb dX2_broken_45 rfl (lv_at hl 1 rfl) ?_
      refine r_ga X hS f2_13 dX2_broken_46 ?_
      refine lv_iload_n hx hb dX2_broken_49 rfl (lv_at hl 0 rfl) ?_
      refine z_il X hS a2_13 hw dX2_broken_50 (fun hw => ?_)
      refine z_vo2 X hS hw gs2_155 (by omega) hl.1 (Nat.le_of_ble_eq_true rfl) dX2_broken_51 (fun h27 hw => ?_)
      exact z_ri X hS hM24 h27 ⟨rfl, hw⟩ dX2_broken_54
    · refine lv_aload_n hx hb dX2_broken_28 rfl (lv_at hl 0 rfl) ?_
      refine z_iconst hx hb dX2_broken_29 ?_
      refine z_callI X hS (m2_fails (⟨by decide, by decide⟩) hM12 hw) gv2_257 hy2_fails rfl (by omega) (by decide) (sbs_sub rfl) hl.1 (Nat.le_of_ble_eq_true rfl) dX2_broken_30 rfl (fun x28 V30 Z33 h29 hM31 hw P32 H locs c1 s1 hP hS => ?_)
      obtain ⟨rfl, hw⟩ := hw
      exact z_ri X hS hM31 h29 ⟨rfl, hw⟩ dX2_broken_33
  · refine lv_aload_n hx hb dX2_broken_13 rfl (lv_at hl 0 rfl) ?_
    refine z_iconst hx hb dX2_broken_14 ?_
    refine z_callI X hS (m2_fails (⟨by decide, by decide⟩) hM6 hw) gv2_257 hy2_fails rfl (by omega) (by decide) (sbs_sub rfl) hl.1 (Nat.le_of_ble_eq_true rfl) dX2_broken_15 rfl (fun x34 V36 Z39 h35 hM37 hw P38 H locs c1 s1 hP hS => ?_)
    obtain ⟨rfl, hw⟩ := hw
    exact z_ri X hS hM37 h35 ⟨rfl, hw⟩ dX2_broken_18
theorem m2_item {a1 : Int} {V : Mv} {Q : Int → Mv → Prop} {PX : Px} (r1 : inR a1) (hM : inM V) (hw : w2_item a1 V Q) : MT l S0 E 1 h0 yX2_item cX2_item 2 (some .int) 3 true (sbs []) [.int (I3 a1)] (toC V) ZM (QL (fun x V1 Z1 => Z1 = ZM ∧ Q x V1)) (PL PX) := by
  refine mt_of Gk1 (by decide) rfl (Nat.le_of_ble_eq_true rfl) ?_
  intro p e s m below meth c A P ls X hS hl
  have hl : lv_has ls 2 [(0, .ref h0), (1, .int (I3 a1))] := hl
  have hx := X.2.1
  have hb := X.2.2.1
  unfold w2_item at hw
  refine lv_aload_n hx hb dX2_item_0 rfl (lv_at hl 0 rfl) ?_
  refine z_iconst hx hb dX2_item_1 ?_
  refine z_pi X hS hM f2_0 p2_0 (⟨by decide, by decide⟩) hw dX2_item_2 (fun V1 hM2 hw H locs hS => ?_)
  refine lv_aload_n hx hb dX2_item_5 rfl (lv_at hl 0 rfl) ?_
  refine lv_iload_n hx hb dX2_item_6 rfl (lv_at hl 1 rfl) ?_
  refine z_callI X hS (m2_isValue r1 hM2 hw) gv2_260 hy2_isValue rfl (by omega) (by decide) (sbs_sub rfl) hl.1 (Nat.le_of_ble_eq_true rfl) dX2_item_7 rfl (fun x3 V5 Z8 h4 hM6 hw P7 H locs c1 s1 hP hS => ?_)
  obtain ⟨rfl, hw⟩ := hw
  refine z_zne (tgt := 19) hx hb h4 hw dX2_item_10 (by decide) (fun hc hw => ?_) (fun hc hw => ?_)
  · refine lv_aload_n hx hb dX2_item_19 rfl (lv_at hl 0 rfl) ?_
    refine z_gi X hS f2_38 dX2_item_20 ?_
    refine z_sipush hx hb dX2_item_23 (by decide +kernel) ?_
    refine z_ine (tgt := 35) hx hb (hM6 38 0) (⟨by decide, by decide⟩) hw dX2_item_26 (by decide) (fun hc hw => ?_) (fun hc hw => ?_)
    · refine lv_aload_n hx hb dX2_item_35 rfl (lv_at hl 0 rfl) ?_
      refine r_ga X hS f2_37 dX2_item_36 ?_
      refine lv_aload_n hx hb dX2_item_39 rfl (lv_at hl 0 rfl) ?_
      refine z_gi X hS f2_38 dX2_item_40 ?_
      refine lv_iload_n hx hb dX2_item_43 rfl (lv_at hl 1 rfl) ?_
      refine z_is X hS hM6 a2_37 r1 hw dX2_item_44 (fun V9 hM10 hw H locs hS => ?_)
      refine lv_aload_n hx hb dX2_item_45 rfl (lv_at hl 0 rfl) ?_
      refine lv_dup hx hb dX2_item_46 rfl ?_
      refine z_gi X hS f2_38 dX2_item_47 ?_
      refine z_iconst hx hb dX2_item_50 ?_
      refine z_add hx hb hw dX2_item_51 (fun h11 hw => ?_)
      refine z_pi X hS hM10 f2_38 p2_38 h11 hw dX2_item_52 (fun V12 hM13 hw H locs hS => ?_)
      refine lv_aload_n hx hb dX2_item_55 rfl (lv_at hl 0 rfl) ?_
      refine z_gi X hS f2_38 dX2_item_56 ?_
      exact z_ri X hS hM13 (hM13 38 0) ⟨rfl, hw⟩ dX2_item_59
    · refine lv_aload_n hx hb dX2_item_29 rfl (lv_at hl 0 rfl) ?_
      refine z_iconst hx hb dX2_item_30 ?_
      refine z_callI X hS (m2_fails (⟨by decide, by decide⟩) hM6 hw) gv2_257 hy2_fails rfl (by omega) (by decide) (sbs_sub rfl) hl.1 (Nat.le_of_ble_eq_true rfl) dX2_item_31 rfl (fun x14 V16 Z19 h15 hM17 hw P18 H locs c1 s1 hP hS => ?_)
      obtain ⟨rfl, hw⟩ := hw
      exact z_ri X hS hM17 h15 ⟨rfl, hw⟩ dX2_item_34
  · refine lv_aload_n hx hb dX2_item_13 rfl (lv_at hl 0 rfl) ?_
    refine z_iconst hx hb dX2_item_14 ?_
    refine z_callI X hS (m2_fails (⟨by decide, by decide⟩) hM6 hw) gv2_257 hy2_fails rfl (by omega) (by decide) (sbs_sub rfl) hl.1 (Nat.le_of_ble_eq_true rfl) dX2_item_15 rfl (fun x20 V22 Z25 h21 hM23 hw P24 H locs c1 s1 hP hS => ?_)
    obtain ⟨rfl, hw⟩ := hw
    exact z_ri X hS hM23 h21 ⟨rfl, hw⟩ dX2_item_18
theorem m2_combine_J14 {V : Mv} {Q : Int → Mv → Prop} {PX : Px} (X : Cx E 1 h0 P0 kc0 ks0 S0 A p l R s m args meth c cX2_combine 7 (some .int) 5) (hM : inM V) (hS : HS E 1 h0 P0 kc0 ks0 (sbs []) A s.heap P (toC V) ZM H locs cells slots) (hl : lv_has ls 7 [(0, .ref h0)]) (hw : w2_combine_J14  V Q) : W p l e R s m args below meth c H locs cells slots (MQx below (QT E 1 h0 true P0 kc0 ks0 (sbs []) A (QL (fun x V1 Z1 => Z1 = ZM ∧ Q x V1)) (PL PX) s) s) (F0 m 14 ls []) := by
  have hx := X.2.1
  have hb := X.2.2.1
  unfold w2_combine_J14 at hw
  refine lv_aload_n hx hb dX2_combine_14 rfl (lv_at hl 0 rfl) ?_
  refine z_iconst hx hb dX2_combine_15 ?_
  refine z_callI X hS (m2_fails (⟨by decide, by decide⟩) hM hw) gv2_257 hy2_fails rfl (by omega) (by decide) (sbs_sub rfl) hl.1 (Nat.le_of_ble_eq_true rfl) dX2_combine_16 rfl (fun x1 V3 Z6 h2 hM4 hw P5 H locs c1 s1 hP hS => ?_)
  obtain ⟨rfl, hw⟩ := hw
  exact z_ri X hS hM4 h2 ⟨rfl, hw⟩ dX2_combine_19
theorem m2_combine_J245 {a2 : Int} {V : Mv} {Q : Int → Mv → Prop} {PX : Px} (X : Cx E 1 h0 P0 kc0 ks0 S0 A p l R s m args meth c cX2_combine 7 (some .int) 5) (hM : inM V) (hS : HS E 1 h0 P0 kc0 ks0 (sbs []) A s.heap P (toC V) ZM H locs cells slots) (hl : lv_has ls 7 [(0, .ref h0), (2, .int (I3 a2))]) (r2 : inR a2) (hw : w2_combine_J245 a2 V Q) : W p l e R s m args below meth c H locs cells slots (MQx below (QT E 1 h0 true P0 kc0 ks0 (sbs []) A (QL (fun x V1 Z1 => Z1 = ZM ∧ Q x V1)) (PL PX) s) s) (F0 m 245 ls []) := by
  have hx := X.2.1
  have hb := X.2.2.1
  unfold w2_combine_J245 at hw
  refine lv_aload_n hx hb dX2_combine_245 rfl (lv_at hl 0 rfl) ?_
  refine r_ga X hS f2_13 dX2_combine_246 ?_
  refine lv_iload_n hx hb dX2_combine_249 rfl (lv_at hl 1 rfl) ?_
  refine z_il X hS a2_13 hw dX2_combine_250 (fun hw => ?_)
  refine z_vo2 X hS hw gs2_155 (by omega) hl.1 (Nat.le_of_ble_eq_true rfl) dX2_combine_251 (fun h7 hw => ?_)
  exact z_ri X hS hM h7 ⟨rfl, hw⟩ dX2_combine_254
theorem m2_combine_J242 {a2 : Int} {b1 : Int} {b2 : Int} {V : Mv} {Q : Int → Mv → Prop} {PX : Px} (X : Cx E 1 h0 P0 kc0 ks0 S0 A p l R s m args meth c cX2_combine 7 (some .int) 5) (hM : inM V) (hS : HS E 1 h0 P0 kc0 ks0 (sbs []) A s.heap P (toC V) ZM H locs cells slots) (hl : lv_has ls 7 [(0, .ref h0), (2, .int (I3 a2))]) (r2 : inR a2) (sr1 : inR b1) (sr2 : inR b2) (hw : w2_combine_J242 a2 b1 b2 V Q) : W p l e R s m args below meth c H locs cells slots (MQx below (QT E 1 h0 true P0 kc0 ks0 (sbs []) A (QL (fun x V1 Z1 => Z1 = ZM ∧ Q x V1)) (PL PX) s) s) (F0 m 242 ls [.int (I3 b2), .int (I3 b1), .ref h0]) := by
  have hx := X.2.1
  have hb := X.2.2.1
  unfold w2_combine_J242 at hw
  refine z_callV X hS (m2_finish sr1 sr2 hM hw) gv2_224 hy2_finish rfl (by omega) (by decide) (sbs_sub rfl) hl.1 (Nat.le_of_ble_eq_true rfl) dX2_combine_242 rfl (fun x8 V10 Z13 h9 hM11 hw P12 H locs c1 s1 hP hS => ?_)
  obtain ⟨rfl, hw⟩ := hw
  exact m2_combine_J245 X hM11 hS (lv_sub hl [0, 1] rfl) r2 hw
theorem m2_combine_J200 {L : Int → Int → Int → Int → Mv → Prop} {a1 : Int} {a2 : Int} {a3 : Int} {a4 : Int} {V : Mv} {Q : Int → Mv → Prop} {PX : Px} (hL : ∀ {a1 : Int} {a2 : Int} {a3 : Int} {a4 : Int} {V : Mv} {P : Le} {H : Heap} {locs : List Loc} {cells slots : Nat} {ls : Array Slot}, inM V → HS E 1 h0 P0 kc0 ks0 (sbs []) A s.heap P (toC V) ZM H locs cells slots → lv_has ls 7 [(0, .ref h0), (1, .int (I3 a1)), (2, .int (I3 a2)), (3, .int (I3 a3)), (4, .int (I3 a4))] → inR a1 → inR a2 → inR a3 → inR a4 → L a1 a2 a3 a4 V → W p l e R s m args below meth c H locs cells slots (MQx below (QT E 1 h0 true P0 kc0 ks0 (sbs []) A (QL (fun x V1 Z1 => Z1 = ZM ∧ Q x V1)) (PL PX) s) s) (F0 m 69 ls [])) (X : Cx E 1 h0 P0 kc0 ks0 S0 A p l R s m args meth c cX2_combine 7 (some .int) 5) (hM : inM V) (hS : HS E 1 h0 P0 kc0 ks0 (sbs []) A s.heap P (toC V) ZM H locs cells slots) (hl : lv_has ls 7 [(0, .ref h0), (1, .int (I3 a1)), (2, .int (I3 a2)), (3, .int (I3 a3)), (4, .int (I3 a4))]) (r1 : inR a1) (r2 : inR a2) (r3 : inR a3) (r4 : inR a4) (hw : w2_combine_J200 L a1 a2 a3 a4 V Q) : W p l e R s m args below meth c H locs cells slots (MQx below (QT E 1 h0 true P0 kc0 ks0 (sbs []) A (QL (fun x V1 Z1 => Z1 = ZM ∧ Q x V1)) (PL PX) s) s) (F0 m 200 ls []) := by
  have hx := X.2.1
  have hb := X.2.2.1
  unfold w2_combine_J200 at hw
  refine z_inc (k := 4) (lv' := [(4, .int (I3 (a4 + 1))), (0, .ref h0), (1, .int (I3 a1)), (2, .int (I3 a2)), (3, .int (I3 a3))]) hx hb hw dX2_combine_200 hl rfl (by decide) rfl (fun ls hl h14 hw => ?_)
  refine lv_goto (tgt := 69) hx hb dX2_combine_203 (by decide) ?_
  exact hL hM hS (lv_sub hl [1, 2, 3, 4, 0] rfl)  r1 r2 r3 h14 hw
theorem m2_combine_J127 {L : Int → Int → Int → Int → Mv → Prop} {a1 : Int} {a2 : Int} {a3 : Int} {a4 : Int} {a5 : Int} {a6 : Int} {V : Mv} {Q : Int → Mv → Prop} {PX : Px} (hL : ∀ {a1 : Int} {a2 : Int} {a3 : Int} {a4 : Int} {V : Mv} {P : Le} {H : Heap} {locs : List Loc} {cells slots : Nat} {ls : Array Slot}, inM V → HS E 1 h0 P0 kc0 ks0 (sbs []) A s.heap P (toC V) ZM H locs cells slots → lv_has ls 7 [(0, .ref h0), (1, .int (I3 a1)), (2, .int (I3 a2)), (3, .int (I3 a3)), (4, .int (I3 a4))] → inR a1 → inR a2 → inR a3 → inR a4 → L a1 a2 a3 a4 V → W p l e R s m args below meth c H locs cells slots (MQx below (QT E 1 h0 true P0 kc0 ks0 (sbs []) A (QL (fun x V1 Z1 => Z1 = ZM ∧ Q x V1)) (PL PX) s) s) (F0 m 69 ls [])) (X : Cx E 1 h0 P0 kc0 ks0 S0 A p l R s m args meth c cX2_combine 7 (some .int) 5) (hM : inM V) (hS : HS E 1 h0 P0 kc0 ks0 (sbs []) A s.heap P (toC V) ZM H locs cells slots) (hl : lv_has ls 7 [(0, .ref h0), (1, .int (I3 a1)), (2, .int (I3 a2)), (3, .int (I3 a3)), (4, .int (I3 a4)), (5, .int (I3 a5)), (6, .int (I3 a6))]) (r1 : inR a1) (r2 : inR a2) (r3 : inR a3) (r4 : inR a4) (r5 : inR a5) (r6 : inR a6) (hw : w2_combine_J127 L a1 a2 a3 a4 a5 a6 V Q) : W p l e R s m args below meth c H locs cells slots (MQx below (QT E 1 h0 true P0 kc0 ks0 (sbs []) A (QL (fun x V1 Z1 => Z1 = ZM ∧ Q x V1)) (PL PX) s) s) (F0 m 127 ls []) := by
  have hx := X.2.1
  have hb := X.2.2.1
  unfold w2_combine_J127 at hw
  refine lv_iload_n hx hb dX2_combine_127 rfl (lv_at hl 1 rfl) ?_
  refine z_zne (tgt := 146) hx hb r1 hw dX2_combine_128 (by decide) (fun hc hw => ?_) (fun hc hw => ?_)
  · refine lv_iload_n hx hb dX2_combine_146 rfl (lv_at hl 1 rfl) ?_
    refine z_iconst hx hb dX2_combine_147 ?_
    refine z_ine (tgt := 168) hx hb r1 (⟨by decide, by decide⟩) hw dX2_combine_148 (by decide) (fun hc hw => ?_) (fun hc hw => ?_)
    · refine lv_iload_n hx hb dX2_combine_168 rfl (lv_at hl 1 rfl) ?_
      refine z_iconst hx hb dX2_combine_169 ?_
      refine z_ine (tgt := 189) hx hb r1 (⟨by decide, by decide⟩) hw dX2_combine_170 (by decide) (fun hc hw => ?_) (fun hc hw => ?_)
      · refine lv_aload_n hx hb dX2_combine_189 rfl (lv_at hl 0 rfl) ?_
        refine lv_iload hx hb dX2_combine_190 (lv_at hl 6 rfl) ?_
        refine z_iconst hx hb dX2_combine_192 ?_
        refine lv_iload_n hx hb dX2_combine_193 rfl (lv_at hl 2 rfl) ?_
        refine z_iconst hx hb dX2_combine_194 ?_
        refine lv_iload_n hx hb dX2_combine_195 rfl (lv_at hl 2 rfl) ?_
        refine z_callI X hS (m2_then_2 r6 (⟨by decide, by decide⟩) r2 (⟨by decide, by decide⟩) r2 hM hw) gv2_220 hy2_then_2 rfl (by omega) (by decide) (sbs_sub rfl) hl.1 (Nat.le_of_ble_eq_true rfl) dX2_combine_196 rfl (fun x15 V17 Z20 h16 hM18 hw P19 H locs c1 s1 hP hS => ?_)
        obtain ⟨rfl, hw⟩ := hw
        refine lv_pop hx hb dX2_combine_199 rfl ?_
        exact m2_combine_J200 hL X hM18 hS (lv_sub hl [0, 1, 2, 3, 4] rfl) r1 r2 r3 r4 hw
      · refine lv_aload_n hx hb dX2_combine_173 rfl (lv_at hl 0 rfl) ?_
        refine lv_iload hx hb dX2_combine_174 (lv_at hl 6 rfl) ?_
        refine z_iconst hx hb dX2_combine_176 ?_
        refine lv_iload_n hx hb dX2_combine_177 rfl (lv_at hl 2 rfl) ?_
        refine z_bipush hx hb dX2_combine_178 (by decide +kernel) ?_
        refine lv_iload hx hb dX2_combine_180 (lv_at hl 5 rfl) ?_
        refine z_callI X hS (m2_then_2 r6 (⟨by decide, by decide⟩) r2 (⟨by decide, by decide⟩) r5 hM hw) gv2_220 hy2_then_2 rfl (by omega) (by decide) (sbs_sub rfl) hl.1 (Nat.le_of_ble_eq_true rfl) dX2_combine_182 rfl (fun x21 V23 Z26 h22 hM24 hw P25 H locs c1 s1 hP hS => ?_)
        obtain ⟨rfl, hw⟩ := hw
        refine lv_pop hx hb dX2_combine_185 rfl ?_
        refine lv_goto (tgt := 200) hx hb dX2_combine_186 (by decide) ?_
        exact m2_combine_J200 hL X hM24 hS (lv_sub hl [0, 1, 2, 3, 4] rfl) r1 r2 r3 r4 hw
    · refine lv_aload_n hx hb dX2_combine_151 rfl (lv_at hl 0 rfl) ?_
      refine lv_iload hx hb dX2_combine_152 (lv_at hl 6 rfl) ?_
      refine z_iconst hx hb dX2_combine_154 ?_
      refine lv_iload hx hb dX2_combine_155 (lv_at hl 5 rfl) ?_
      refine z_bipush hx hb dX2_combine_157 (by decide +kernel) ?_
      refine lv_iload hx hb dX2_combine_159 (lv_at hl 5 rfl) ?_
      refine z_callI X hS (m2_then_2 r6 (⟨by decide, by decide⟩) r5 (⟨by decide, by decide⟩) r5 hM hw) gv2_220 hy2_then_2 rfl (by omega) (by decide) (sbs_sub rfl) hl.1 (Nat.le_of_ble_eq_true rfl) dX2_combine_161 rfl (fun x27 V29 Z32 h28 hM30 hw P31 H locs c1 s1 hP hS => ?_)
      obtain ⟨rfl, hw⟩ := hw
      refine lv_pop hx hb dX2_combine_164 rfl ?_
      refine lv_goto (tgt := 200) hx hb dX2_combine_165 (by decide) ?_
      exact m2_combine_J200 hL X hM30 hS (lv_sub hl [0, 1, 2, 3, 4] rfl) r1 r2 r3 r4 hw
  · refine lv_aload_n hx hb dX2_combine_131 rfl (lv_at hl 0 rfl) ?_
    refine lv_iload hx hb dX2_combine_132 (lv_at hl 6 rfl) ?_
    refine z_iconst hx hb dX2_combine_134 ?_
    refine lv_iload hx hb dX2_combine_135 (lv_at hl 5 rfl) ?_
    refine z_iconst hx hb dX2_combine_137 ?_
    refine lv_iload_n hx hb dX2_combine_138 rfl (lv_at hl 2 rfl) ?_
    refine z_callI X hS (m2_then_2 r6 (⟨by decide, by decide⟩) r5 (⟨by decide, by decide⟩) r2 hM hw) gv2_220 hy2_then_2 rfl (by omega) (by decide) (sbs_sub rfl) hl.1 (Nat.le_of_ble_eq_true rfl) dX2_combine_139 rfl (fun x33 V35 Z38 h34 hM36 hw P37 H locs c1 s1 hP hS => ?_)
    obtain ⟨rfl, hw⟩ := hw
    refine lv_pop hx hb dX2_combine_142 rfl ?_
    refine lv_goto (tgt := 200) hx hb dX2_combine_143 (by decide) ?_
    exact m2_combine_J200 hL X hM36 hS (lv_sub hl [0, 1, 2, 3, 4] rfl) r1 r2 r3 r4 hw
theorem m2_combine_L69 {Q : Int → Mv → Prop} {PX : Px} (X : Cx E 1 h0 P0 kc0 ks0 S0 A p l R s m args meth c cX2_combine 7 (some .int) 5) : ∀ n, ∀ {a1 : Int} {a2 : Int} {a3 : Int} {a4 : Int} {V : Mv} {P : Le} {H : Heap} {locs : List Loc} {cells slots : Nat} {ls : Array Slot}, inM V → HS E 1 h0 P0 kc0 ks0 (sbs []) A s.heap P (toC V) ZM H locs cells slots → lv_has ls 7 [(0, .ref h0), (1, .int (I3 a1)), (2, .int (I3 a2)), (3, .int (I3 a3)), (4, .int (I3 a4))] → inR a1 → inR a2 → inR a3 → inR a4 → w2_combine_L69 Q n a1 a2 a3 a4 V → W p l e R s m args below meth c H locs cells slots (MQx below (QT E 1 h0 true P0 kc0 ks0 (sbs []) A (QL (fun x V1 Z1 => Z1 = ZM ∧ Q x V1)) (PL PX) s) s) (F0 m 69 ls []) := by
  have hx := X.2.1
  have hb := X.2.2.1
  intro n
  induction n with
  | zero => intros; rename_i hw; exact hw.elim
  | succ n ih =>
    intro a1 a2 a3 a4 V P H locs cells slots ls hM hS hl r1 r2 r3 r4 hw
    unfold w2_combine_L69 at hw
    refine lv_iload hx hb dX2_combine_69 (lv_at hl 4 rfl) ?_
    refine lv_aload_n hx hb dX2_combine_71 rfl (lv_at hl 0 rfl) ?_
    refine r_ga X hS f2_44 dX2_combine_72 ?_
    refine lv_iload_n hx hb dX2_combine_75 rfl (lv_at hl 3 rfl) ?_
    refine z_il X hS a2_44 hw dX2_combine_76 (fun hw => ?_)
    refine z_ige (tgt := 206) hx hb r4 (hM 44 a3) hw dX2_combine_77 (by decide) (fun hc hw => ?_) (fun hc hw => ?_)
    · refine lv_aload_n hx hb dX2_combine_206 rfl (lv_at hl 0 rfl) ?_
      refine r_ga X hS f2_45 dX2_combine_207 ?_
      refine lv_iload_n hx hb dX2_combine_210 rfl (lv_at hl 3 rfl) ?_
      refine lv_dup2_11 hx hb dX2_combine_211 rfl rfl ?_
      refine z_il X hS a2_45 hw dX2_combine_212 (fun hw => ?_)
      refine z_iconst hx hb dX2_combine_213 ?_
      refine z_sub hx hb hw dX2_combine_214 (fun h39 hw => ?_)
      refine z_is X hS hM a2_45 h39 hw dX2_combine_215 (fun V40 hM41 hw H locs hS => ?_)
      refine lv_iload_n hx hb dX2_combine_216 rfl (lv_at hl 1 rfl) ?_
      refine z_iconst hx hb dX2_combine_217 ?_
      refine z_ige (tgt := 245) hx hb r1 (⟨by decide, by decide⟩) hw dX2_combine_218 (by decide) (fun hc hw => ?_) (fun hc hw => ?_)
      · exact m2_combine_J245 X hM41 hS (lv_sub hl [0, 2] rfl) r2 hw
      · refine lv_aload_n hx hb dX2_combine_221 rfl (lv_at hl 0 rfl) ?_
        refine r_ga X hS f2_45 dX2_combine_222 ?_
        refine lv_iload_n hx hb dX2_combine_225 rfl (lv_at hl 3 rfl) ?_
        refine z_il X hS a2_45 hw dX2_combine_226 (fun hw => ?_)
        refine z_zne (tgt := 245) hx hb (hM41 45 a3) hw dX2_combine_227 (by decide) (fun hc hw => ?_) (fun hc hw => ?_)
        · exact m2_combine_J245 X hM41 hS (lv_sub hl [0, 2] rfl) r2 hw
        · refine lv_aload_n hx hb dX2_combine_230 rfl (lv_at hl 0 rfl) ?_
          refine lv_iload_n hx hb dX2_combine_231 rfl (lv_at hl 3 rfl) ?_
          refine lv_iload_n hx hb dX2_combine_232 rfl (lv_at hl 1 rfl) ?_
          refine z_iconst hx hb dX2_combine_233 ?_
          refine z_ine (tgt := 241) hx hb r1 (⟨by decide, by decide⟩) hw dX2_combine_234 (by decide) (fun hc hw => ?_) (fun hc hw => ?_)
          · refine z_iconst hx hb dX2_combine_241 ?_
            exact m2_combine_J242 X hM41 hS (lv_sub hl [0, 2] rfl) r2 r3 (⟨by decide, by decide⟩) hw
          · refine z_iconst hx hb dX2_combine_237 ?_
            refine lv_goto (tgt := 242) hx hb dX2_combine_238 (by decide) ?_
            exact m2_combine_J242 X hM41 hS (lv_sub hl [0, 2] rfl) r2 r3 (⟨by decide, by decide⟩) hw
    · refine lv_aload_n hx hb dX2_combine_80 rfl (lv_at hl 0 rfl) ?_
      refine r_ga X hS f2_43 dX2_combine_81 ?_
      refine lv_iload_n hx hb dX2_combine_84 rfl (lv_at hl 3 rfl) ?_
      refine z_il X hS a2_43 hw dX2_combine_85 (fun hw => ?_)
      refine lv_iload hx hb dX2_combine_86 (lv_at hl 4 rfl) ?_
      refine z_add hx hb hw dX2_combine_88 (fun h42 hw => ?_)
      refine lv_istore (lv' := [(5, .int (I3 (V 43 a3 + a4))), (0, .ref h0), (1, .int (I3 a1)), (2, .int (I3 a2)), (3, .int (I3 a3)), (4, .int (I3 a4))]) hx hb dX2_combine_89 hl (by decide) rfl (fun ls hl => ?_)
      refine lv_aload_n hx hb dX2_combine_91 rfl (lv_at hl 1 rfl) ?_
      refine lv_aload_n hx hb dX2_combine_92 rfl (lv_at hl 1 rfl) ?_
      refine r_ga X hS f2_39 dX2_combine_93 ?_
      refine lv_iload hx hb dX2_combine_96 (lv_at hl 0 rfl) ?_
      refine z_il X hS a2_39 hw dX2_combine_98 (fun hw => ?_)
      refine z_callI X hS (m2_promiseOf (hM 39 (V 43 a3 + a4)) hM hw) gv2_214 hy2_promiseOf rfl (by omega) (by decide) (sbs_sub rfl) hl.1 (Nat.le_of_ble_eq_true rfl) dX2_combine_99 rfl (fun x43 V45 Z48 h44 hM46 hw P47 H locs c1 s1 hP hS => ?_)
      obtain ⟨rfl, hw⟩ := hw
      refine lv_istore (lv' := [(6, .int (I3 x43)), (5, .int (I3 (V 43 a3 + a4))), (0, .ref h0), (1, .int (I3 a1)), (2, .int (I3 a2)), (3, .int (I3 a3)), (4, .int (I3 a4))]) hx hb dX2_combine_102 hl (by decide) rfl (fun ls hl => ?_)
      refine lv_iload_n hx hb dX2_combine_104 rfl (lv_at hl 3 rfl) ?_
      refine z_iconst hx hb dX2_combine_105 ?_
      refine z_ige (tgt := 127) hx hb r1 (⟨by decide, by decide⟩) hw dX2_combine_106 (by decide) (fun hc hw => ?_) (fun hc hw => ?_)
      · exact m2_combine_J127 ih X hM46 hS (lv_sub hl [2, 3, 4, 5, 6, 1, 0] rfl) r1 r2 r3 r4 h42 h44 hw
      · refine lv_aload_n hx hb dX2_combine_109 rfl (lv_at hl 2 rfl) ?_
        refine r_ga X hS f2_39 dX2_combine_110 ?_
        refine lv_iload hx hb dX2_combine_113 (lv_at hl 1 rfl) ?_
        refine z_iconst hx hb dX2_combine_115 ?_
        refine z_is X hS hM46 a2_39 (⟨by decide, by decide⟩) hw dX2_combine_116 (fun V49 hM50 hw H locs hS => ?_)
        refine lv_aload_n hx hb dX2_combine_117 rfl (lv_at hl 2 rfl) ?_
        refine r_ga X hS f2_45 dX2_combine_118 ?_
        refine lv_iload_n hx hb dX2_combine_121 rfl (lv_at hl 5 rfl) ?_
        refine lv_dup2_11 hx hb dX2_combine_122 rfl rfl ?_
        refine z_il X hS a2_45 hw dX2_combine_123 (fun hw => ?_)
        refine z_iconst hx hb dX2_combine_124 ?_
        refine z_add hx hb hw dX2_combine_125 (fun h51 hw => ?_)
        refine z_is X hS hM50 a2_45 h51 hw dX2_combine_126 (fun V52 hM53 hw H locs hS => ?_)
        exact m2_combine_J127 ih X hM53 hS (lv_sub hl [2, 3, 4, 5, 6, 1, 0] rfl) r1 r2 r3 r4 h42 h44 hw
theorem m2_combine {a1 : Int} {V : Mv} {Q : Int → Mv → Prop} {PX : Px} (r1 : inR a1) (hM : inM V) (hw : w2_combine a1 V Q) : MT l S0 E 1 h0 yX2_combine cX2_combine 7 (some .int) 5 true (sbs []) [.int (I3 a1)] (toC V) ZM (QL (fun x V1 Z1 => Z1 = ZM ∧ Q x V1)) (PL PX) := by
  refine mt_of Gk1 (by decide) rfl (Nat.le_of_ble_eq_true rfl) ?_
  intro p e s m below meth c A P ls X hS hl
  have hl : lv_has ls 7 [(0, .ref h0), (1, .int (I3 a1))] := hl
  have hx := X.2.1
  have hb := X.2.2.1
  unfold w2_combine at hw
  refine lv_aload_n hx hb dX2_combine_0 rfl (lv_at hl 0 rfl) ?_
  refine z_iconst hx hb dX2_combine_1 ?_
  refine z_pi X hS hM f2_0 p2_0 (⟨by decide, by decide⟩) hw dX2_combine_2 (fun V54 hM55 hw H locs hS => ?_)
  refine lv_iload_n hx hb dX2_combine_5 rfl (lv_at hl 1 rfl) ?_
  refine z_zlt (tgt := 14) hx hb r1 hw dX2_combine_6 (by decide) (fun hc hw => ?_) (fun hc hw => ?_)
  · exact m2_combine_J14 X hM55 hS (lv_sub hl [0] rfl)  hw
  · refine lv_iload_n hx hb dX2_combine_9 rfl (lv_at hl 1 rfl) ?_
    refine z_iconst hx hb dX2_combine_10 ?_
    refine z_ile (tgt := 20) hx hb r1 (⟨by decide, by decide⟩) hw dX2_combine_11 (by decide) (fun hc hw => ?_) (fun hc hw => ?_)
    · refine lv_aload_n hx hb dX2_combine_20 rfl (lv_at hl 0 rfl) ?_
      refine z_bipush hx hb dX2_combine_21 (by decide +kernel) ?_
      refine z_iconst hx hb dX2_combine_23 ?_
      refine lv_aload_n hx hb dX2_combine_24 rfl (lv_at hl 0 rfl) ?_
      refine z_gi X hS f2_38 dX2_combine_25 ?_
      refine z_mul hx hb hw dX2_combine_28 (fun h56 hw => ?_)
      refine z_add hx hb hw dX2_combine_29 (fun h57 hw => ?_)
      refine z_callI X hS (m2_isFull h57 hM55 hw) gv2_254 hy2_isFull rfl (by omega) (by decide) (sbs_sub rfl) hl.1 (Nat.le_of_ble_eq_true rfl) dX2_combine_30 rfl (fun x58 V60 Z63 h59 hM61 hw P62 H locs c1 s1 hP hS => ?_)
      obtain ⟨rfl, hw⟩ := hw
      refine z_zeq (tgt := 42) hx hb h59 hw dX2_combine_33 (by decide) (fun hc hw => ?_) (fun hc hw => ?_)
      · refine lv_aload_n hx hb dX2_combine_42 rfl (lv_at hl 0 rfl) ?_
        refine z_callI X hS (m2_capability  hM61 hw) gv2_171 hy2_capability rfl (by omega) (by decide) (sbs_sub rfl) hl.1 (Nat.le_of_ble_eq_true rfl) dX2_combine_43 rfl (fun x64 V66 Z69 h65 hM67 hw P68 H locs c1 s1 hP hS => ?_)
        obtain ⟨rfl, hw⟩ := hw
        refine lv_istore_n (lv' := [(2, .int (I3 x64)), (0, .ref h0), (1, .int (I3 a1))]) hx hb dX2_combine_46 rfl hl (by decide) rfl (fun ls hl => ?_)
        refine lv_aload_n hx hb dX2_combine_47 rfl (lv_at hl 1 rfl) ?_
        refine z_callI X hS (m2_group  hM67 hw) gv2_269 hy2_group rfl (by omega) (by decide) (sbs_sub rfl) hl.1 (Nat.le_of_ble_eq_true rfl) dX2_combine_48 rfl (fun x70 V72 Z75 h71 hM73 hw P74 H locs c1 s1 hP hS => ?_)
        obtain ⟨rfl, hw⟩ := hw
        refine lv_istore_n (lv' := [(3, .int (I3 x70)), (2, .int (I3 x64)), (0, .ref h0), (1, .int (I3 a1))]) hx hb dX2_combine_51 rfl hl (by decide) rfl (fun ls hl => ?_)
        refine lv_aload_n hx hb dX2_combine_52 rfl (lv_at hl 2 rfl) ?_
        refine r_ga X hS f2_46 dX2_combine_53 ?_
        refine lv_iload_n hx hb dX2_combine_56 rfl (lv_at hl 0 rfl) ?_
        refine lv_iload_n hx hb dX2_combine_57 rfl (lv_at hl 1 rfl) ?_
        refine z_is X hS hM73 a2_46 h65 hw dX2_combine_58 (fun V76 hM77 hw H locs hS => ?_)
        refine lv_aload_n hx hb dX2_combine_59 rfl (lv_at hl 2 rfl) ?_
        refine r_ga X hS f2_45 dX2_combine_60 ?_
        refine lv_iload_n hx hb dX2_combine_63 rfl (lv_at hl 0 rfl) ?_
        refine z_iconst hx hb dX2_combine_64 ?_
        refine z_is X hS hM77 a2_45 (⟨by decide, by decide⟩) hw dX2_combine_65 (fun V78 hM79 hw H locs hS => ?_)
        refine z_iconst hx hb dX2_combine_66 ?_
        refine lv_istore (lv' := [(4, .int (I3 0)), (3, .int (I3 x70)), (2, .int (I3 x64)), (0, .ref h0), (1, .int (I3 a1))]) hx hb dX2_combine_67 hl (by decide) rfl (fun ls hl => ?_)
        obtain ⟨n, hw⟩ := hw
        exact m2_combine_L69 X n hM79 hS (lv_sub hl [3, 4, 2, 1, 0] rfl) r1 h65 h71 (⟨by decide, by decide⟩) hw
      · refine lv_aload_n hx hb dX2_combine_36 rfl (lv_at hl 0 rfl) ?_
        refine z_iconst hx hb dX2_combine_37 ?_
        refine z_callI X hS (m2_fails (⟨by decide, by decide⟩) hM61 hw) gv2_257 hy2_fails rfl (by omega) (by decide) (sbs_sub rfl) hl.1 (Nat.le_of_ble_eq_true rfl) dX2_combine_38 rfl (fun x80 V82 Z85 h81 hM83 hw P84 H locs c1 s1 hP hS => ?_)
        obtain ⟨rfl, hw⟩ := hw
        exact z_ri X hS hM83 h81 ⟨rfl, hw⟩ dX2_combine_41
    · exact m2_combine_J14 X hM55 hS (lv_sub hl [0] rfl)  hw
end WALK
