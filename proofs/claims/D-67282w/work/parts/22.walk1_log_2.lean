set_option maxRecDepth 100000
theorem dX1_log_2_0 : decode cX1_log_2 0 = .ok (.aload_n 0, 1) := by decide +kernel
theorem dX1_log_2_1 : decode cX1_log_2 1 = .ok (.getfield 241, 3) := by decide +kernel
theorem dX1_log_2_4 : decode cX1_log_2 4 = .ok (.aload_n 0, 1) := by decide +kernel
theorem dX1_log_2_5 : decode cX1_log_2 5 = .ok (.getfield 132, 3) := by decide +kernel
theorem dX1_log_2_8 : decode cX1_log_2 8 = .ok (.arraylength, 1) := by decide +kernel
theorem dX1_log_2_9 : decode cX1_log_2 9 = .ok (.if_icmp .ne 37, 3) := by decide +kernel
theorem dX1_log_2_12 : decode cX1_log_2 12 = .ok (.aload_n 0, 1) := by decide +kernel
theorem dX1_log_2_13 : decode cX1_log_2 13 = .ok (.aload_n 0, 1) := by decide +kernel
theorem dX1_log_2_14 : decode cX1_log_2 14 = .ok (.getfield 132, 3) := by decide +kernel
theorem dX1_log_2_17 : decode cX1_log_2 17 = .ok (.iconst 2, 1) := by decide +kernel
theorem dX1_log_2_18 : decode cX1_log_2 18 = .ok (.aload_n 0, 1) := by decide +kernel
theorem dX1_log_2_19 : decode cX1_log_2 19 = .ok (.getfield 241, 3) := by decide +kernel
theorem dX1_log_2_22 : decode cX1_log_2 22 = .ok (.imul, 1) := by decide +kernel
theorem dX1_log_2_23 : decode cX1_log_2 23 = .ok (.invokestatic 144, 3) := by decide +kernel
theorem dX1_log_2_26 : decode cX1_log_2 26 = .ok (.putfield 132, 3) := by decide +kernel
theorem dX1_log_2_29 : decode cX1_log_2 29 = .ok (.aload_n 0, 1) := by decide +kernel
theorem dX1_log_2_30 : decode cX1_log_2 30 = .ok (.aload_n 0, 1) := by decide +kernel
theorem dX1_log_2_31 : decode cX1_log_2 31 = .ok (.getfield 135, 3) := by decide +kernel
theorem dX1_log_2_34 : decode cX1_log_2 34 = .ok (.iconst 2, 1) := by decide +kernel
theorem dX1_log_2_35 : decode cX1_log_2 35 = .ok (.aload_n 0, 1) := by decide +kernel
theorem dX1_log_2_36 : decode cX1_log_2 36 = .ok (.getfield 241, 3) := by decide +kernel
theorem dX1_log_2_39 : decode cX1_log_2 39 = .ok (.imul, 1) := by decide +kernel
theorem dX1_log_2_40 : decode cX1_log_2 40 = .ok (.invokestatic 144, 3) := by decide +kernel
theorem dX1_log_2_43 : decode cX1_log_2 43 = .ok (.putfield 135, 3) := by decide +kernel
theorem dX1_log_2_46 : decode cX1_log_2 46 = .ok (.aload_n 0, 1) := by decide +kernel
theorem dX1_log_2_47 : decode cX1_log_2 47 = .ok (.getfield 132, 3) := by decide +kernel
theorem dX1_log_2_50 : decode cX1_log_2 50 = .ok (.aload_n 0, 1) := by decide +kernel
theorem dX1_log_2_51 : decode cX1_log_2 51 = .ok (.getfield 241, 3) := by decide +kernel
theorem dX1_log_2_54 : decode cX1_log_2 54 = .ok (.iload_n 1, 1) := by decide +kernel
theorem dX1_log_2_55 : decode cX1_log_2 55 = .ok (.iastore, 1) := by decide +kernel
theorem dX1_log_2_56 : decode cX1_log_2 56 = .ok (.aload_n 0, 1) := by decide +kernel
theorem dX1_log_2_57 : decode cX1_log_2 57 = .ok (.getfield 135, 3) := by decide +kernel
theorem dX1_log_2_60 : decode cX1_log_2 60 = .ok (.aload_n 0, 1) := by decide +kernel
theorem dX1_log_2_61 : decode cX1_log_2 61 = .ok (.getfield 241, 3) := by decide +kernel
theorem dX1_log_2_64 : decode cX1_log_2 64 = .ok (.iload_n 2, 1) := by decide +kernel
theorem dX1_log_2_65 : decode cX1_log_2 65 = .ok (.iastore, 1) := by decide +kernel
theorem dX1_log_2_66 : decode cX1_log_2 66 = .ok (.aload_n 0, 1) := by decide +kernel
theorem dX1_log_2_67 : decode cX1_log_2 67 = .ok (.dup, 1) := by decide +kernel
theorem dX1_log_2_68 : decode cX1_log_2 68 = .ok (.getfield 241, 3) := by decide +kernel
theorem dX1_log_2_71 : decode cX1_log_2 71 = .ok (.iconst 1, 1) := by decide +kernel
theorem dX1_log_2_72 : decode cX1_log_2 72 = .ok (.iadd, 1) := by decide +kernel
theorem dX1_log_2_73 : decode cX1_log_2 73 = .ok (.putfield 241, 3) := by decide +kernel
theorem dX1_log_2_76 : decode cX1_log_2 76 = .ok (.return_, 1) := by decide +kernel
theorem dX1_user_0 : decode cX1_user 0 = .ok (.aload_n 0, 1) := by decide +kernel
theorem dX1_user_1 : decode cX1_user 1 = .ok (.aload_n 0, 1) := by decide +kernel
theorem dX1_user_2 : decode cX1_user 2 = .ok (.getfield 62, 3) := by decide +kernel
theorem dX1_user_5 : decode cX1_user 5 = .ok (.iload_n 1, 1) := by decide +kernel
theorem dX1_user_6 : decode cX1_user 6 = .ok (.iaload, 1) := by decide +kernel
theorem dX1_user_7 : decode cX1_user 7 = .ok (.iload_n 2, 1) := by decide +kernel
theorem dX1_user_8 : decode cX1_user 8 = .ok (.invokevirtual 244, 3) := by decide +kernel
theorem dX1_user_11 : decode cX1_user 11 = .ok (.aload_n 0, 1) := by decide +kernel
theorem dX1_user_12 : decode cX1_user 12 = .ok (.getfield 56, 3) := by decide +kernel
theorem dX1_user_15 : decode cX1_user 15 = .ok (.iload_n 1, 1) := by decide +kernel
theorem dX1_user_16 : decode cX1_user 16 = .ok (.iaload, 1) := by decide +kernel
theorem dX1_user_17 : decode cX1_user 17 = .ok (.tableswitch 57 0 3 #[31, 38, 40, 51], 31) := by decide +kernel
theorem dX1_user_48 : decode cX1_user 48 = .ok (.aload_n 0, 1) := by decide +kernel
theorem dX1_user_49 : decode cX1_user 49 = .ok (.getfield 59, 3) := by decide +kernel
theorem dX1_user_52 : decode cX1_user 52 = .ok (.iload_n 1, 1) := by decide +kernel
theorem dX1_user_53 : decode cX1_user 53 = .ok (.iaload, 1) := by decide +kernel
theorem dX1_user_54 : decode cX1_user 54 = .ok (.ireturn, 1) := by decide +kernel
theorem dX1_user_55 : decode cX1_user 55 = .ok (.iload_n 2, 1) := by decide +kernel
theorem dX1_user_56 : decode cX1_user 56 = .ok (.ireturn, 1) := by decide +kernel
theorem dX1_user_57 : decode cX1_user 57 = .ok (.aload_n 0, 1) := by decide +kernel
theorem dX1_user_58 : decode cX1_user 58 = .ok (.aload_n 0, 1) := by decide +kernel
theorem dX1_user_59 : decode cX1_user 59 = .ok (.getfield 59, 3) := by decide +kernel
theorem dX1_user_62 : decode cX1_user 62 = .ok (.iload_n 1, 1) := by decide +kernel
theorem dX1_user_63 : decode cX1_user 63 = .ok (.iaload, 1) := by decide +kernel
theorem dX1_user_64 : decode cX1_user 64 = .ok (.invokevirtual 238, 3) := by decide +kernel
theorem dX1_user_67 : decode cX1_user 67 = .ok (.ireturn, 1) := by decide +kernel
theorem dX1_user_68 : decode cX1_user 68 = .ok (.aload_n 0, 1) := by decide +kernel
theorem dX1_user_69 : decode cX1_user 69 = .ok (.iload_n 2, 1) := by decide +kernel
theorem dX1_user_70 : decode cX1_user 70 = .ok (.invokevirtual 238, 3) := by decide +kernel
theorem dX1_user_73 : decode cX1_user 73 = .ok (.ireturn, 1) := by decide +kernel
theorem dX1_user_74 : decode cX1_user 74 = .ok (.aload_n 0, 1) := by decide +kernel
theorem dX1_user_75 : decode cX1_user 75 = .ok (.aload_n 0, 1) := by decide +kernel
theorem dX1_user_76 : decode cX1_user 76 = .ok (.getfield 25, 3) := by decide +kernel
theorem dX1_user_79 : decode cX1_user 79 = .ok (.aload_n 0, 1) := by decide +kernel
theorem dX1_user_80 : decode cX1_user 80 = .ok (.getfield 59, 3) := by decide +kernel
theorem dX1_user_83 : decode cX1_user 83 = .ok (.iload_n 1, 1) := by decide +kernel
theorem dX1_user_84 : decode cX1_user 84 = .ok (.iaload, 1) := by decide +kernel
theorem dX1_user_85 : decode cX1_user 85 = .ok (.invokestatic 201, 3) := by decide +kernel
theorem dX1_user_88 : decode cX1_user 88 = .ok (.iaload, 1) := by decide +kernel
theorem dX1_user_89 : decode cX1_user 89 = .ok (.aload_n 0, 1) := by decide +kernel
theorem dX1_user_90 : decode cX1_user 90 = .ok (.getfield 56, 3) := by decide +kernel
theorem dX1_user_93 : decode cX1_user 93 = .ok (.iload_n 1, 1) := by decide +kernel
theorem dX1_user_94 : decode cX1_user 94 = .ok (.iaload, 1) := by decide +kernel
theorem dX1_user_95 : decode cX1_user 95 = .ok (.iadd, 1) := by decide +kernel
theorem dX1_user_96 : decode cX1_user 96 = .ok (.iconst 4, 1) := by decide +kernel
theorem dX1_user_97 : decode cX1_user 97 = .ok (.isub, 1) := by decide +kernel
theorem dX1_user_98 : decode cX1_user 98 = .ok (.iload_n 2, 1) := by decide +kernel
theorem dX1_user_99 : decode cX1_user 99 = .ok (.invokevirtual 218, 3) := by decide +kernel
theorem dX1_user_102 : decode cX1_user 102 = .ok (.pop, 1) := by decide +kernel
theorem dX1_user_103 : decode cX1_user 103 = .ok (.iconst (-1), 1) := by decide +kernel
theorem dX1_user_104 : decode cX1_user 104 = .ok (.ireturn, 1) := by decide +kernel
theorem dX1_lessLeft_0 : decode cX1_lessLeft 0 = .ok (.aload_n 0, 1) := by decide +kernel
theorem dX1_lessLeft_1 : decode cX1_lessLeft 1 = .ok (.getfield 105, 3) := by decide +kernel
theorem dX1_lessLeft_4 : decode cX1_lessLeft 4 = .ok (.iload_n 1, 1) := by decide +kernel
theorem dX1_lessLeft_5 : decode cX1_lessLeft 5 = .ok (.iaload, 1) := by decide +kernel
theorem dX1_lessLeft_6 : decode cX1_lessLeft 6 = .ok (.istore_n 3, 1) := by decide +kernel
theorem dX1_lessLeft_7 : decode cX1_lessLeft 7 = .ok (.aload_n 0, 1) := by decide +kernel
theorem dX1_lessLeft_8 : decode cX1_lessLeft 8 = .ok (.getfield 65, 3) := by decide +kernel
theorem dX1_lessLeft_11 : decode cX1_lessLeft 11 = .ok (.iload_n 3, 1) := by decide +kernel
theorem dX1_lessLeft_12 : decode cX1_lessLeft 12 = .ok (.dup2, 1) := by decide +kernel
theorem dX1_lessLeft_13 : decode cX1_lessLeft 13 = .ok (.iaload, 1) := by decide +kernel
theorem dX1_lessLeft_14 : decode cX1_lessLeft 14 = .ok (.iconst 1, 1) := by decide +kernel
theorem dX1_lessLeft_15 : decode cX1_lessLeft 15 = .ok (.isub, 1) := by decide +kernel
theorem dX1_lessLeft_16 : decode cX1_lessLeft 16 = .ok (.iastore, 1) := by decide +kernel
theorem dX1_lessLeft_17 : decode cX1_lessLeft 17 = .ok (.aload_n 0, 1) := by decide +kernel
theorem dX1_lessLeft_18 : decode cX1_lessLeft 18 = .ok (.getfield 65, 3) := by decide +kernel
theorem dX1_lessLeft_21 : decode cX1_lessLeft 21 = .ok (.iload_n 3, 1) := by decide +kernel
theorem dX1_lessLeft_22 : decode cX1_lessLeft 22 = .ok (.iaload, 1) := by decide +kernel
theorem dX1_lessLeft_23 : decode cX1_lessLeft 23 = .ok (.ifCond .eq 5, 3) := by decide +kernel
theorem dX1_lessLeft_26 : decode cX1_lessLeft 26 = .ok (.iconst (-1), 1) := by decide +kernel
theorem dX1_lessLeft_27 : decode cX1_lessLeft 27 = .ok (.ireturn, 1) := by decide +kernel
theorem dX1_lessLeft_28 : decode cX1_lessLeft 28 = .ok (.iload_n 2, 1) := by decide +kernel
theorem dX1_lessLeft_29 : decode cX1_lessLeft 29 = .ok (.ifCond .eq 23, 3) := by decide +kernel
theorem dX1_lessLeft_32 : decode cX1_lessLeft 32 = .ok (.aload_n 0, 1) := by decide +kernel
theorem dX1_lessLeft_33 : decode cX1_lessLeft 33 = .ok (.aload_n 0, 1) := by decide +kernel
theorem dX1_lessLeft_34 : decode cX1_lessLeft 34 = .ok (.getfield 105, 3) := by decide +kernel
theorem dX1_lessLeft_37 : decode cX1_lessLeft 37 = .ok (.iload_n 1, 1) := by decide +kernel
theorem dX1_lessLeft_38 : decode cX1_lessLeft 38 = .ok (.iconst 3, 1) := by decide +kernel
theorem dX1_lessLeft_39 : decode cX1_lessLeft 39 = .ok (.iadd, 1) := by decide +kernel
theorem dX1_lessLeft_40 : decode cX1_lessLeft 40 = .ok (.iaload, 1) := by decide +kernel
theorem dX1_lessLeft_41 : decode cX1_lessLeft 41 = .ok (.aload_n 0, 1) := by decide +kernel
theorem dX1_lessLeft_42 : decode cX1_lessLeft 42 = .ok (.iload_n 1, 1) := by decide +kernel
theorem dX1_lessLeft_43 : decode cX1_lessLeft 43 = .ok (.invokevirtual 257, 3) := by decide +kernel
theorem dX1_lessLeft_46 : decode cX1_lessLeft 46 = .ok (.invokevirtual 218, 3) := by decide +kernel
theorem dX1_lessLeft_49 : decode cX1_lessLeft 49 = .ok (.goto 31, 3) := by decide +kernel
theorem dX1_lessLeft_52 : decode cX1_lessLeft 52 = .ok (.aload_n 0, 1) := by decide +kernel
theorem dX1_lessLeft_53 : decode cX1_lessLeft 53 = .ok (.aload_n 0, 1) := by decide +kernel
theorem dX1_lessLeft_54 : decode cX1_lessLeft 54 = .ok (.getfield 105, 3) := by decide +kernel
theorem dX1_lessLeft_57 : decode cX1_lessLeft 57 = .ok (.iload_n 1, 1) := by decide +kernel
theorem dX1_lessLeft_58 : decode cX1_lessLeft 58 = .ok (.iconst 2, 1) := by decide +kernel
theorem dX1_lessLeft_59 : decode cX1_lessLeft 59 = .ok (.iadd, 1) := by decide +kernel
theorem dX1_lessLeft_60 : decode cX1_lessLeft 60 = .ok (.iaload, 1) := by decide +kernel
theorem dX1_lessLeft_61 : decode cX1_lessLeft 61 = .ok (.aload_n 0, 1) := by decide +kernel
theorem dX1_lessLeft_62 : decode cX1_lessLeft 62 = .ok (.iconst 4, 1) := by decide +kernel
theorem dX1_lessLeft_63 : decode cX1_lessLeft 63 = .ok (.iload_n 1, 1) := by decide +kernel
theorem dX1_lessLeft_64 : decode cX1_lessLeft 64 = .ok (.iconst 4, 1) := by decide +kernel
theorem dX1_lessLeft_65 : decode cX1_lessLeft 65 = .ok (.iadd, 1) := by decide +kernel
theorem dX1_lessLeft_66 : decode cX1_lessLeft 66 = .ok (.aload_n 0, 1) := by decide +kernel
theorem dX1_lessLeft_67 : decode cX1_lessLeft 67 = .ok (.getfield 105, 3) := by decide +kernel
theorem dX1_lessLeft_70 : decode cX1_lessLeft 70 = .ok (.iload_n 1, 1) := by decide +kernel
theorem dX1_lessLeft_71 : decode cX1_lessLeft 71 = .ok (.iconst 1, 1) := by decide +kernel
theorem dX1_lessLeft_72 : decode cX1_lessLeft 72 = .ok (.iadd, 1) := by decide +kernel
theorem dX1_lessLeft_73 : decode cX1_lessLeft 73 = .ok (.iaload, 1) := by decide +kernel
theorem dX1_lessLeft_74 : decode cX1_lessLeft 74 = .ok (.invokevirtual 250, 3) := by decide +kernel
theorem dX1_lessLeft_77 : decode cX1_lessLeft 77 = .ok (.invokevirtual 218, 3) := by decide +kernel
theorem dX1_lessLeft_80 : decode cX1_lessLeft 80 = .ok (.ireturn, 1) := by decide +kernel
theorem dX1_wrapped_0 : decode cX1_wrapped 0 = .ok (.iload_n 1, 1) := by decide +kernel
theorem dX1_wrapped_1 : decode cX1_wrapped 1 = .ok (.invokestatic 197, 3) := by decide +kernel
theorem dX1_wrapped_4 : decode cX1_wrapped 4 = .ok (.ifCond .eq 20, 3) := by decide +kernel
theorem dX1_wrapped_7 : decode cX1_wrapped 7 = .ok (.aload_n 0, 1) := by decide +kernel
theorem dX1_wrapped_8 : decode cX1_wrapped 8 = .ok (.getfield 9, 3) := by decide +kernel
theorem dX1_wrapped_11 : decode cX1_wrapped 11 = .ok (.iload_n 1, 1) := by decide +kernel
theorem dX1_wrapped_12 : decode cX1_wrapped 12 = .ok (.invokestatic 201, 3) := by decide +kernel
theorem dX1_wrapped_15 : decode cX1_wrapped 15 = .ok (.iaload, 1) := by decide +kernel
theorem dX1_wrapped_16 : decode cX1_wrapped 16 = .ok (.ifCond .ne 8, 3) := by decide +kernel
theorem dX1_wrapped_19 : decode cX1_wrapped 19 = .ok (.iload_n 1, 1) := by decide +kernel
theorem dX1_wrapped_20 : decode cX1_wrapped 20 = .ok (.invokestatic 201, 3) := by decide +kernel
theorem dX1_wrapped_23 : decode cX1_wrapped 23 = .ok (.ireturn, 1) := by decide +kernel
theorem dX1_wrapped_24 : decode cX1_wrapped 24 = .ok (.aload_n 0, 1) := by decide +kernel
theorem dX1_wrapped_25 : decode cX1_wrapped 25 = .ok (.invokevirtual 204, 3) := by decide +kernel
theorem dX1_wrapped_28 : decode cX1_wrapped 28 = .ok (.istore_n 2, 1) := by decide +kernel
theorem dX1_wrapped_29 : decode cX1_wrapped 29 = .ok (.aload_n 0, 1) := by decide +kernel
theorem dX1_wrapped_30 : decode cX1_wrapped 30 = .ok (.aload_n 0, 1) := by decide +kernel
theorem dX1_wrapped_31 : decode cX1_wrapped 31 = .ok (.iload_n 2, 1) := by decide +kernel
theorem dX1_wrapped_32 : decode cX1_wrapped 32 = .ok (.invokevirtual 207, 3) := by decide +kernel
theorem dX1_wrapped_35 : decode cX1_wrapped 35 = .ok (.iload_n 1, 1) := by decide +kernel
theorem dX1_wrapped_36 : decode cX1_wrapped 36 = .ok (.invokevirtual 218, 3) := by decide +kernel
theorem dX1_wrapped_39 : decode cX1_wrapped 39 = .ok (.pop, 1) := by decide +kernel
theorem dX1_wrapped_40 : decode cX1_wrapped 40 = .ok (.iload_n 2, 1) := by decide +kernel
theorem dX1_wrapped_41 : decode cX1_wrapped 41 = .ok (.ireturn, 1) := by decide +kernel
theorem dX1_element_0 : decode cX1_element 0 = .ok (.aload_n 0, 1) := by decide +kernel
theorem dX1_element_1 : decode cX1_element 1 = .ok (.getfield 65, 3) := by decide +kernel
theorem dX1_element_4 : decode cX1_element 4 = .ok (.aload_n 0, 1) := by decide +kernel
theorem dX1_element_5 : decode cX1_element 5 = .ok (.getfield 62, 3) := by decide +kernel
theorem dX1_element_8 : decode cX1_element 8 = .ok (.iload_n 1, 1) := by decide +kernel
theorem dX1_element_9 : decode cX1_element 9 = .ok (.iaload, 1) := by decide +kernel
theorem dX1_element_10 : decode cX1_element 10 = .ok (.iaload, 1) := by decide +kernel
theorem dX1_element_11 : decode cX1_element 11 = .ok (.ifCond .eq 5, 3) := by decide +kernel
theorem dX1_element_14 : decode cX1_element 14 = .ok (.iconst (-1), 1) := by decide +kernel
theorem dX1_element_15 : decode cX1_element 15 = .ok (.ireturn, 1) := by decide +kernel
theorem dX1_element_16 : decode cX1_element 16 = .ok (.aload_n 0, 1) := by decide +kernel
theorem dX1_element_17 : decode cX1_element 17 = .ok (.getfield 65, 3) := by decide +kernel
theorem dX1_element_20 : decode cX1_element 20 = .ok (.aload_n 0, 1) := by decide +kernel
theorem dX1_element_21 : decode cX1_element 21 = .ok (.getfield 62, 3) := by decide +kernel
theorem dX1_element_24 : decode cX1_element 24 = .ok (.iload_n 1, 1) := by decide +kernel
theorem dX1_element_25 : decode cX1_element 25 = .ok (.iaload, 1) := by decide +kernel
theorem dX1_element_26 : decode cX1_element 26 = .ok (.iconst 1, 1) := by decide +kernel
theorem dX1_element_27 : decode cX1_element 27 = .ok (.iastore, 1) := by decide +kernel
theorem dX1_element_28 : decode cX1_element 28 = .ok (.aload_n 0, 1) := by decide +kernel
theorem dX1_element_29 : decode cX1_element 29 = .ok (.getfield 56, 3) := by decide +kernel
theorem dX1_element_32 : decode cX1_element 32 = .ok (.iload_n 1, 1) := by decide +kernel
theorem dX1_element_33 : decode cX1_element 33 = .ok (.iaload, 1) := by decide +kernel
theorem dX1_element_34 : decode cX1_element 34 = .ok (.istore_n 3, 1) := by decide +kernel
theorem dX1_element_35 : decode cX1_element 35 = .ok (.aload_n 0, 1) := by decide +kernel
theorem dX1_element_36 : decode cX1_element 36 = .ok (.getfield 53, 3) := by decide +kernel
theorem dX1_element_39 : decode cX1_element 39 = .ok (.iload_n 1, 1) := by decide +kernel
theorem dX1_element_40 : decode cX1_element 40 = .ok (.iaload, 1) := by decide +kernel
theorem dX1_element_41 : decode cX1_element 41 = .ok (.istore 4, 2) := by decide +kernel
theorem dX1_element_43 : decode cX1_element 43 = .ok (.iload_n 2, 1) := by decide +kernel
theorem dX1_element_44 : decode cX1_element 44 = .ok (.istore 5, 2) := by decide +kernel
theorem dX1_element_46 : decode cX1_element 46 = .ok (.iload 4, 2) := by decide +kernel
theorem dX1_element_48 : decode cX1_element 48 = .ok (.iconst 4, 1) := by decide +kernel
theorem dX1_element_49 : decode cX1_element 49 = .ok (.if_icmp .eq 9, 3) := by decide +kernel
theorem dX1_element_52 : decode cX1_element 52 = .ok (.iload 4, 2) := by decide +kernel
theorem dX1_element_54 : decode cX1_element 54 = .ok (.iconst 5, 1) := by decide +kernel
theorem dX1_element_55 : decode cX1_element 55 = .ok (.if_icmp .ne 48, 3) := by decide +kernel
theorem dX1_element_58 : decode cX1_element 58 = .ok (.aload_n 0, 1) := by decide +kernel
theorem dX1_element_59 : decode cX1_element 59 = .ok (.iconst 2, 1) := by decide +kernel
theorem dX1_element_60 : decode cX1_element 60 = .ok (.invokevirtual 247, 3) := by decide +kernel
theorem dX1_element_63 : decode cX1_element 63 = .ok (.istore 6, 2) := by decide +kernel
theorem dX1_element_65 : decode cX1_element 65 = .ok (.aload_n 0, 1) := by decide +kernel
theorem dX1_element_66 : decode cX1_element 66 = .ok (.getfield 105, 3) := by decide +kernel
theorem dX1_element_69 : decode cX1_element 69 = .ok (.iload 6, 2) := by decide +kernel
theorem dX1_element_71 : decode cX1_element 71 = .ok (.iload 4, 2) := by decide +kernel
theorem dX1_element_73 : decode cX1_element 73 = .ok (.iconst 4, 1) := by decide +kernel
theorem dX1_element_74 : decode cX1_element 74 = .ok (.if_icmp .ne 7, 3) := by decide +kernel
theorem dX1_element_77 : decode cX1_element 77 = .ok (.iconst 1, 1) := by decide +kernel
theorem dX1_element_78 : decode cX1_element 78 = .ok (.goto 4, 3) := by decide +kernel
theorem dX1_element_81 : decode cX1_element 81 = .ok (.iconst 0, 1) := by decide +kernel
theorem dX1_element_82 : decode cX1_element 82 = .ok (.iastore, 1) := by decide +kernel
theorem dX1_element_83 : decode cX1_element 83 = .ok (.aload_n 0, 1) := by decide +kernel
theorem dX1_element_84 : decode cX1_element 84 = .ok (.getfield 105, 3) := by decide +kernel
theorem dX1_element_87 : decode cX1_element 87 = .ok (.iload 6, 2) := by decide +kernel
theorem dX1_element_89 : decode cX1_element 89 = .ok (.iconst 1, 1) := by decide +kernel
theorem dX1_element_90 : decode cX1_element 90 = .ok (.iadd, 1) := by decide +kernel
theorem dX1_element_91 : decode cX1_element 91 = .ok (.iload_n 2, 1) := by decide +kernel
theorem dX1_element_92 : decode cX1_element 92 = .ok (.iastore, 1) := by decide +kernel
theorem dX1_element_93 : decode cX1_element 93 = .ok (.aload_n 0, 1) := by decide +kernel
theorem dX1_element_94 : decode cX1_element 94 = .ok (.iconst 5, 1) := by decide +kernel
theorem dX1_element_95 : decode cX1_element 95 = .ok (.iload 6, 2) := by decide +kernel
theorem dX1_element_97 : decode cX1_element 97 = .ok (.iconst 2, 1) := by decide +kernel
theorem dX1_element_98 : decode cX1_element 98 = .ok (.invokevirtual 250, 3) := by decide +kernel
theorem dX1_element_101 : decode cX1_element 101 = .ok (.istore 5, 2) := by decide +kernel
theorem dX1_element_103 : decode cX1_element 103 = .ok (.aload_n 0, 1) := by decide +kernel
theorem dX1_element_104 : decode cX1_element 104 = .ok (.getfield 105, 3) := by decide +kernel
theorem dX1_element_107 : decode cX1_element 107 = .ok (.iload_n 3, 1) := by decide +kernel
theorem dX1_element_108 : decode cX1_element 108 = .ok (.iconst 4, 1) := by decide +kernel
theorem dX1_element_109 : decode cX1_element 109 = .ok (.iadd, 1) := by decide +kernel
theorem dX1_element_110 : decode cX1_element 110 = .ok (.aload_n 0, 1) := by decide +kernel
theorem dX1_element_111 : decode cX1_element 111 = .ok (.getfield 59, 3) := by decide +kernel
theorem dX1_element_114 : decode cX1_element 114 = .ok (.iload_n 1, 1) := by decide +kernel
theorem dX1_element_115 : decode cX1_element 115 = .ok (.iaload, 1) := by decide +kernel
theorem dX1_element_116 : decode cX1_element 116 = .ok (.iadd, 1) := by decide +kernel
theorem dX1_element_117 : decode cX1_element 117 = .ok (.iload 5, 2) := by decide +kernel
theorem dX1_element_119 : decode cX1_element 119 = .ok (.iastore, 1) := by decide +kernel
theorem dX1_element_120 : decode cX1_element 120 = .ok (.aload_n 0, 1) := by decide +kernel
theorem dX1_element_121 : decode cX1_element 121 = .ok (.iload_n 3, 1) := by decide +kernel
theorem dX1_element_122 : decode cX1_element 122 = .ok (.iload 4, 2) := by decide +kernel
theorem dX1_element_124 : decode cX1_element 124 = .ok (.bipush 6, 2) := by decide +kernel
theorem dX1_element_126 : decode cX1_element 126 = .ok (.if_icmp .ne 7, 3) := by decide +kernel
theorem dX1_element_129 : decode cX1_element 129 = .ok (.iconst 1, 1) := by decide +kernel
theorem dX1_element_130 : decode cX1_element 130 = .ok (.goto 4, 3) := by decide +kernel
theorem dX1_element_133 : decode cX1_element 133 = .ok (.iconst 0, 1) := by decide +kernel
theorem dX1_element_134 : decode cX1_element 134 = .ok (.invokevirtual 253, 3) := by decide +kernel
theorem dX1_element_137 : decode cX1_element 137 = .ok (.ireturn, 1) := by decide +kernel
section WALK
variable {p : Program} {l : Launch} {e : Env} {R : Room} {s : State} {m : MethodId} {args : Array Value} {below : List Frame} {meth : Method} {c : Code} {H : Heap} {locs : List Loc} {cells slots : Nat}
variable {E : Ev} {h0 : Nat} {P0 : Le} {kc0 ks0 : Nat} {S0 : State} {A : Nat → Prop} {P : Le} {ls : Array Slot}
theorem m1_log_2_J46 {a1 : Int} {a2 : Int} {V : Mv} {Z : Le} {Q : Po} {PX : Px} (X : Cx E 0 h0 P0 kc0 ks0 S0 A p l R s m args meth c cX1_log_2 3 none 3) (hM : inM V) (hS : HS E 0 h0 P0 kc0 ks0 (sbs [51, 52]) A s.heap P (toC V) Z H locs cells slots) (hl : lv_has ls 3 [(0, .ref h0), (1, .int (I3 a1)), (2, .int (I3 a2))]) (r1 : inR a1) (r2 : inR a2) (hw : w1_log_2_J46 a1 a2 V Z Q) : W p l e R s m args below meth c H locs cells slots (MQx below (QT E 0 h0 false P0 kc0 ks0 (sbs [51, 52]) A (QL Q) (PL PX) s) s) (F0 m 46 ls []) := by
  have hx := X.2.1
  have hb := X.2.2.1
  unfold w1_log_2_J46 at hw
  refine lv_aload_n hx hb dX1_log_2_46 rfl (lv_at hl 0 rfl) ?_
  refine r_ga X hS f1_51 dX1_log_2_47 ?_
  refine lv_aload_n hx hb dX1_log_2_50 rfl (lv_at hl 0 rfl) ?_
  refine z_gi X hS f1_53 dX1_log_2_51 ?_
  refine lv_iload_n hx hb dX1_log_2_54 rfl (lv_at hl 1 rfl) ?_
  refine z_is X hS hM a1_51 r1 hw dX1_log_2_55 (fun V1 hM2 hw H locs hS => ?_)
  refine lv_aload_n hx hb dX1_log_2_56 rfl (lv_at hl 0 rfl) ?_
  refine r_ga X hS f1_52 dX1_log_2_57 ?_
  refine lv_aload_n hx hb dX1_log_2_60 rfl (lv_at hl 0 rfl) ?_
  refine z_gi X hS f1_53 dX1_log_2_61 ?_
  refine lv_iload_n hx hb dX1_log_2_64 rfl (lv_at hl 2 rfl) ?_
  refine z_is X hS hM2 a1_52 r2 hw dX1_log_2_65 (fun V3 hM4 hw H locs hS => ?_)
  refine lv_aload_n hx hb dX1_log_2_66 rfl (lv_at hl 0 rfl) ?_
  refine lv_dup hx hb dX1_log_2_67 rfl ?_
  refine z_gi X hS f1_53 dX1_log_2_68 ?_
  refine z_iconst hx hb dX1_log_2_71 ?_
  refine z_add hx hb hw dX1_log_2_72 (fun h5 hw => ?_)
  refine z_pi X hS hM4 f1_53 p1_53 h5 hw dX1_log_2_73 (fun V6 hM7 hw H locs hS => ?_)
  exact z_rv X hS hM7 hw dX1_log_2_76
theorem m1_log_2 {a1 : Int} {a2 : Int} {V : Mv} {Z : Le} {Q : Po} {PX : Px} (r1 : inR a1) (r2 : inR a2) (hM : inM V) (hw : w1_log_2 a1 a2 V Z Q) : MT l S0 E 0 h0 yX1_log_2 cX1_log_2 3 none 3 false (sbs [51, 52]) [.int (I3 a1), .int (I3 a2)] (toC V) Z (QL Q) (PL PX) := by
  refine mt_of Gk0 (by decide) rfl (Nat.le_of_ble_eq_true rfl) ?_
  intro p e s m below meth c A P ls X hS hl
  have hl : lv_has ls 3 [(0, .ref h0), (1, .int (I3 a1)), (2, .int (I3 a2))] := hl
  have hx := X.2.1
  have hb := X.2.2.1
  unfold w1_log_2 at hw
  refine lv_aload_n hx hb dX1_log_2_0 rfl (lv_at hl 0 rfl) ?_
  refine z_gi X hS f1_53 dX1_log_2_1 ?_
  refine lv_aload_n hx hb dX1_log_2_4 rfl (lv_at hl 0 rfl) ?_
  refine r_ga X hS f1_51 dX1_log_2_5 ?_
  refine z_len X hS a1_51 dX1_log_2_8 ?_
  refine z_ine (tgt := 46) hx hb (hM 53 0) (z_lenR hS a1_51) hw dX1_log_2_9 (by decide) (fun hc hw => ?_) (fun hc hw => ?_)
  · exact m1_log_2_J46 X hM hS (lv_sub hl [0, 1, 2] rfl) r1 r2 hw
  · refine lv_aload_n hx hb dX1_log_2_12 rfl (lv_at hl 0 rfl) ?_
    refine lv_aload_n hx hb dX1_log_2_13 rfl (lv_at hl 0 rfl) ?_
    refine r_ga X hS f1_51 dX1_log_2_14 ?_
    refine z_iconst hx hb dX1_log_2_17 ?_
    refine lv_aload_n hx hb dX1_log_2_18 rfl (lv_at hl 0 rfl) ?_
    refine z_gi X hS f1_53 dX1_log_2_19 ?_
    refine z_mul hx hb hw dX1_log_2_22 (fun h8 hw => ?_)
    refine z_grow X hS hM f1_51 a1_51 rfl rfl (by decide) hw gs1_144 (by omega) hl.1 (Nat.le_of_ble_eq_true rfl) dX1_log_2_23 dX1_log_2_26 (fun V9 Z10 hM11 hw P12 H locs c1 s1 hP hS => ?_)
    refine lv_aload_n hx hb dX1_log_2_29 rfl (lv_at hl 0 rfl) ?_
    refine lv_aload_n hx hb dX1_log_2_30 rfl (lv_at hl 0 rfl) ?_
    refine r_ga X hS f1_52 dX1_log_2_31 ?_
    refine z_iconst hx hb dX1_log_2_34 ?_
    refine lv_aload_n hx hb dX1_log_2_35 rfl (lv_at hl 0 rfl) ?_
    refine z_gi X hS f1_53 dX1_log_2_36 ?_
    refine z_mul hx hb hw dX1_log_2_39 (fun h13 hw => ?_)
    refine z_grow X hS hM11 f1_52 a1_52 rfl rfl (by decide) hw gs1_144 (by omega) hl.1 (Nat.le_of_ble_eq_true rfl) dX1_log_2_40 dX1_log_2_43 (fun V14 Z15 hM16 hw P17 H locs c1 s1 hP hS => ?_)
    exact m1_log_2_J46 X hM16 hS (lv_sub hl [0, 1, 2] rfl) r1 r2 hw
theorem m1_user {wc : Wc} {dc : Nat} (hdc : 20 ≤ dc) (hcl : ∀ {a1 a2 : Int} {V : Mv} {Z : Le} {Q : Po} {PX : Px} (_ : inR a1) (_ : inR a2) (_ : inM V) (_ : wc a1 a2 V Z Q), MT l S0 E 0 h0 yX1_call cX1_call 5 (some .int) dc true (sbs [15, 16, 17, 18, 20, 22, 23, 24, 25, 26, 27, 29, 30, 31, 32, 38, 51, 52]) [.int (I3 a1), .int (I3 a2)] (toC V) Z (QL Q) (PL PX)) {a1 : Int} {a2 : Int} {V : Mv} {Z : Le} {Q : Po} {PX : Px} (r1 : inR a1) (r2 : inR a2) (hM : inM V) (hw : w1_user wc a1 a2 V Z Q) : MT l S0 E 0 h0 yX1_user cX1_user 3 (some .int) (dc + 1) true (sbs [15, 16, 17, 18, 20, 22, 23, 24, 25, 26, 27, 29, 30, 31, 32, 38, 51, 52]) [.int (I3 a1), .int (I3 a2)] (toC V) Z (QL Q) (PL PX) := by
  refine mt_of Gk0 (by decide) rfl (Nat.le_of_ble_eq_true rfl) ?_
  intro p e s m below meth c A P ls X hS hl
  have hl : lv_has ls 3 [(0, .ref h0), (1, .int (I3 a1)), (2, .int (I3 a2))] := hl
  have hx := X.2.1
  have hb := X.2.2.1
  unfold w1_user at hw
  refine lv_aload_n hx hb dX1_user_0 rfl (lv_at hl 0 rfl) ?_
  refine lv_aload_n hx hb dX1_user_1 rfl (lv_at hl 0 rfl) ?_
  refine r_ga X hS f1_18 dX1_user_2 ?_
  refine lv_iload_n hx hb dX1_user_5 rfl (lv_at hl 1 rfl) ?_
  refine z_il X hS a1_18 hw dX1_user_6 (fun hw => ?_)
  refine lv_iload_n hx hb dX1_user_7 rfl (lv_at hl 2 rfl) ?_
  refine z_callV X hS (m1_log_2 (hM 18 a1) r2 hM hw) gv1_244 hy1_log_2 rfl (by omega) (by decide) (sbs_sub rfl) hl.1 (Nat.le_of_ble_eq_true rfl) dX1_user_8 rfl (fun x1 V3 Z4 h2 hM5 hw P6 H locs c1 s1 hP hS => ?_)
  refine lv_aload_n hx hb dX1_user_11 rfl (lv_at hl 0 rfl) ?_
  refine r_ga X hS f1_16 dX1_user_12 ?_
  refine lv_iload_n hx hb dX1_user_15 rfl (lv_at hl 1 rfl) ?_
  refine z_il X hS a1_16 hw dX1_user_16 (fun hw => ?_)
  refine z_case hw (fun hc hw => ?_) (fun hc0 hw => ?_)
  · refine z_tin (tgt := 48) (a := 0) hx hb (hM5 16 a1) hc dX1_user_17 (by decide) (by decide) rfl (by decide) ?_
    refine lv_aload_n hx hb dX1_user_48 rfl (lv_at hl 0 rfl) ?_
    refine r_ga X hS f1_17 dX1_user_49 ?_
    refine lv_iload_n hx hb dX1_user_52 rfl (lv_at hl 1 rfl) ?_
    refine z_il X hS a1_17 hw dX1_user_53 (fun hw => ?_)
    exact z_ri X hS hM5 (hM5 17 a1) hw dX1_user_54
  refine z_case hw (fun hc hw => ?_) (fun hc1 hw => ?_)
  · refine z_tin (tgt := 55) (a := 1) hx hb (hM5 16 a1) hc dX1_user_17 (by decide) (by decide) rfl (by decide) ?_
    refine lv_iload_n hx hb dX1_user_55 rfl (lv_at hl 2 rfl) ?_
    exact z_ri X hS hM5 r2 hw dX1_user_56
  refine z_case hw (fun hc hw => ?_) (fun hc2 hw => ?_)
  · refine z_tin (tgt := 57) (a := 2) hx hb (hM5 16 a1) hc dX1_user_17 (by decide) (by decide) rfl (by decide) ?_
    refine lv_aload_n hx hb dX1_user_57 rfl (lv_at hl 0 rfl) ?_
    refine lv_aload_n hx hb dX1_user_58 rfl (lv_at hl 0 rfl) ?_
    refine r_ga X hS f1_17 dX1_user_59 ?_
    refine lv_iload_n hx hb dX1_user_62 rfl (lv_at hl 1 rfl) ?_
    refine z_il X hS a1_17 hw dX1_user_63 (fun hw => ?_)
    refine z_callI X hS (m1_raise (hM5 17 a1) hM5 hw) gv1_238 hy1_raise rfl (by omega) (by decide) (sbs_sub rfl) hl.1 (Nat.le_of_ble_eq_true rfl) dX1_user_64 rfl (fun x7 V9 Z10 h8 hM11 hw P12 H locs c1 s1 hP hS => ?_)
    exact z_ri X hS hM11 h8 hw dX1_user_67
  refine z_case hw (fun hc hw => ?_) (fun hc3 hw => ?_)
  · refine z_tin (tgt := 68) (a := 3) hx hb (hM5 16 a1) hc dX1_user_17 (by decide) (by decide) rfl (by decide) ?_
    refine lv_aload_n hx hb dX1_user_68 rfl (lv_at hl 0 rfl) ?_
    refine lv_iload_n hx hb dX1_user_69 rfl (lv_at hl 2 rfl) ?_
    refine z_callI X hS (m1_raise r2 hM5 hw) gv1_238 hy1_raise rfl (by omega) (by decide) (sbs_sub rfl) hl.1 (Nat.le_of_ble_eq_true rfl) dX1_user_70 rfl (fun x13 V15 Z16 h14 hM17 hw P18 H locs c1 s1 hP hS => ?_)
    exact z_ri X hS hM17 h14 hw dX1_user_73
  refine z_tout (tgt := 74) hx hb (hM5 16 a1) dX1_user_17 (by omega) (by decide) ?_
  refine lv_aload_n hx hb dX1_user_74 rfl (lv_at hl 0 rfl) ?_
  refine lv_aload_n hx hb dX1_user_75 rfl (lv_at hl 0 rfl) ?_
  refine r_ga X hS f1_5 dX1_user_76 ?_
  refine lv_aload_n hx hb dX1_user_79 rfl (lv_at hl 0 rfl) ?_
  refine r_ga X hS f1_17 dX1_user_80 ?_
  refine lv_iload_n hx hb dX1_user_83 rfl (lv_at hl 1 rfl) ?_
  refine z_il X hS a1_17 hw dX1_user_84 (fun hw => ?_)
  refine z_id X hS hw gs1_201 (by omega) hl.1 (Nat.le_of_ble_eq_true rfl) dX1_user_85 (fun h19 hw => ?_)
  refine z_il X hS a1_5 hw dX1_user_88 (fun hw => ?_)
  refine lv_aload_n hx hb dX1_user_89 rfl (lv_at hl 0 rfl) ?_
  refine r_ga X hS f1_16 dX1_user_90 ?_
  refine lv_iload_n hx hb dX1_user_93 rfl (lv_at hl 1 rfl) ?_
  refine z_il X hS a1_16 hw dX1_user_94 (fun hw => ?_)
  refine z_add hx hb hw dX1_user_95 (fun h20 hw => ?_)
  refine z_iconst hx hb dX1_user_96 ?_
  refine z_sub hx hb hw dX1_user_97 (fun h21 hw => ?_)
  refine lv_iload_n hx hb dX1_user_98 rfl (lv_at hl 2 rfl) ?_
  refine z_callI X hS (hcl h21 r2 hM5 hw) gv1_218 hy1_call rfl (by omega) (by decide) (sbs_sub rfl) hl.1 (Nat.le_of_ble_eq_true rfl) dX1_user_99 rfl (fun x22 V24 Z25 h23 hM26 hw P27 H locs c1 s1 hP hS => ?_)
  refine lv_pop hx hb dX1_user_102 rfl ?_
  refine z_iconst hx hb dX1_user_103 ?_
  exact z_ri X hS hM26 (⟨by decide, by decide⟩) hw dX1_user_104
theorem m1_lessLeft_J80 {wc : Wc} {dc : Nat} (hdc : 20 ≤ dc) (hcl : ∀ {a1 a2 : Int} {V : Mv} {Z : Le} {Q : Po} {PX : Px} (_ : inR a1) (_ : inR a2) (_ : inM V) (_ : wc a1 a2 V Z Q), MT l S0 E 0 h0 yX1_call cX1_call 5 (some .int) dc true (sbs [15, 16, 17, 18, 20, 22, 23, 24, 25, 26, 27, 29, 30, 31, 32, 38, 51, 52]) [.int (I3 a1), .int (I3 a2)] (toC V) Z (QL Q) (PL PX)) {b0 : Int} {V : Mv} {Z : Le} {Q : Po} {PX : Px} (X : Cx E 0 h0 P0 kc0 ks0 S0 A p l R s m args meth c cX1_lessLeft 4 (some .int) (dc + 1)) (hM : inM V) (hS : HS E 0 h0 P0 kc0 ks0 (sbs [15, 16, 17, 18, 20, 22, 23, 24, 25, 26, 27, 29, 30, 31, 32, 38, 51, 52]) A s.heap P (toC V) Z H locs cells slots) (hl : lv_has ls 4 []) (sr0 : inR b0) (hw : w1_lessLeft_J80 wc b0 V Z Q) : W p l e R s m args below meth c H locs cells slots (MQx below (QT E 0 h0 true P0 kc0 ks0 (sbs [15, 16, 17, 18, 20, 22, 23, 24, 25, 26, 27, 29, 30, 31, 32, 38, 51, 52]) A (QL Q) (PL PX) s) s) (F0 m 80 ls [.int (I3 b0)]) := by
  have hx := X.2.1
  have hb := X.2.2.1
  unfold w1_lessLeft_J80 at hw
  exact z_ri X hS hM sr0 hw dX1_lessLeft_80
theorem m1_lessLeft {wc : Wc} {dc : Nat} (hdc : 20 ≤ dc) (hcl : ∀ {a1 a2 : Int} {V : Mv} {Z : Le} {Q : Po} {PX : Px} (_ : inR a1) (_ : inR a2) (_ : inM V) (_ : wc a1 a2 V Z Q), MT l S0 E 0 h0 yX1_call cX1_call 5 (some .int) dc true (sbs [15, 16, 17, 18, 20, 22, 23, 24, 25, 26, 27, 29, 30, 31, 32, 38, 51, 52]) [.int (I3 a1), .int (I3 a2)] (toC V) Z (QL Q) (PL PX)) {a1 : Int} {a2 : Int} {V : Mv} {Z : Le} {Q : Po} {PX : Px} (r1 : inR a1) (r2 : inR a2) (hM : inM V) (hw : w1_lessLeft wc a1 a2 V Z Q) : MT l S0 E 0 h0 yX1_lessLeft cX1_lessLeft 4 (some .int) (dc + 1) true (sbs [15, 16, 17, 18, 20, 22, 23, 24, 25, 26, 27, 29, 30, 31, 32, 38, 51, 52]) [.int (I3 a1), .int (I3 a2)] (toC V) Z (QL Q) (PL PX) := by
  refine mt_of Gk0 (by decide) rfl (Nat.le_of_ble_eq_true rfl) ?_
  intro p e s m below meth c A P ls X hS hl
  have hl : lv_has ls 4 [(0, .ref h0), (1, .int (I3 a1)), (2, .int (I3 a2))] := hl
  have hx := X.2.1
  have hb := X.2.2.1
  unfold w1_lessLeft at hw
  refine lv_aload_n hx hb dX1_lessLeft_0 rfl (lv_at hl 0 rfl) ?_
  refine r_ga X hS f1_38 dX1_lessLeft_1 ?_
  refine lv_iload_n hx hb dX1_lessLeft_4 rfl (lv_at hl 1 rfl) ?_
  refine z_il X hS a1_38 hw dX1_lessLeft_5 (fun hw => ?_)
  refine lv_istore_n (lv' := [(3, .int (I3 (V 38 a1))), (0, .ref h0), (1, .int (I3 a1)), (2, .int (I3 a2))]) hx hb dX1_lessLeft_6 rfl hl (by decide) rfl (fun ls hl => ?_)
  refine lv_aload_n hx hb dX1_lessLeft_7 rfl (lv_at hl 1 rfl) ?_
  refine r_ga X hS f1_20 dX1_lessLeft_8 ?_
  refine lv_iload_n hx hb dX1_lessLeft_11 rfl (lv_at hl 0 rfl) ?_
  refine lv_dup2_11 hx hb dX1_lessLeft_12 rfl rfl ?_
  refine z_il X hS a1_20 hw dX1_lessLeft_13 (fun hw => ?_)
  refine z_iconst hx hb dX1_lessLeft_14 ?_
  refine z_sub hx hb hw dX1_lessLeft_15 (fun h1 hw => ?_)
  refine z_is X hS hM a1_20 h1 hw dX1_lessLeft_16 (fun V2 hM3 hw H locs hS => ?_)
  refine lv_aload_n hx hb dX1_lessLeft_17 rfl (lv_at hl 1 rfl) ?_
  refine r_ga X hS f1_20 dX1_lessLeft_18 ?_
  refine lv_iload_n hx hb dX1_lessLeft_21 rfl (lv_at hl 0 rfl) ?_
  refine z_il X hS a1_20 hw dX1_lessLeft_22 (fun hw => ?_)
  refine z_zeq (tgt := 28) hx hb (hM3 20 (V 38 a1)) hw dX1_lessLeft_23 (by decide) (fun hc hw => ?_) (fun hc hw => ?_)
  · refine lv_iload_n hx hb dX1_lessLeft_28 rfl (lv_at hl 3 rfl) ?_
    refine z_zeq (tgt := 52) hx hb r2 hw dX1_lessLeft_29 (by decide) (fun hc hw => ?_) (fun hc hw => ?_)
    · refine lv_aload_n hx hb dX1_lessLeft_52 rfl (lv_at hl 1 rfl) ?_
      refine lv_aload_n hx hb dX1_lessLeft_53 rfl (lv_at hl 1 rfl) ?_
      refine r_ga X hS f1_38 dX1_lessLeft_54 ?_
      refine lv_iload_n hx hb dX1_lessLeft_57 rfl (lv_at hl 2 rfl) ?_
      refine z_iconst hx hb dX1_lessLeft_58 ?_
      refine z_add hx hb hw dX1_lessLeft_59 (fun h4 hw => ?_)
      refine z_il X hS a1_38 hw dX1_lessLeft_60 (fun hw => ?_)
      refine lv_aload_n hx hb dX1_lessLeft_61 rfl (lv_at hl 1 rfl) ?_
      refine z_iconst hx hb dX1_lessLeft_62 ?_
      refine lv_iload_n hx hb dX1_lessLeft_63 rfl (lv_at hl 2 rfl) ?_
      refine z_iconst hx hb dX1_lessLeft_64 ?_
      refine z_add hx hb hw dX1_lessLeft_65 (fun h5 hw => ?_)
      refine lv_aload_n hx hb dX1_lessLeft_66 rfl (lv_at hl 1 rfl) ?_
      refine r_ga X hS f1_38 dX1_lessLeft_67 ?_
      refine lv_iload_n hx hb dX1_lessLeft_70 rfl (lv_at hl 2 rfl) ?_
      refine z_iconst hx hb dX1_lessLeft_71 ?_
      refine z_add hx hb hw dX1_lessLeft_72 (fun h6 hw => ?_)
      refine z_il X hS a1_38 hw dX1_lessLeft_73 (fun hw => ?_)
      refine z_callI X hS (m1_holder (⟨by decide, by decide⟩) h5 (hM3 38 (a1 + 1)) hM3 hw) gv1_250 hy1_holder rfl (by omega) (by decide) (sbs_sub rfl) hl.1 (Nat.le_of_ble_eq_true rfl) dX1_lessLeft_74 rfl (fun x7 V9 Z10 h8 hM11 hw P12 H locs c1 s1 hP hS => ?_)
      refine z_callI X hS (hcl (hM3 38 (a1 + 2)) h8 hM11 hw) gv1_218 hy1_call rfl (by omega) (by decide) (sbs_sub rfl) hl.1 (Nat.le_of_ble_eq_true rfl) dX1_lessLeft_77 rfl (fun x13 V15 Z16 h14 hM17 hw P18 H locs c1 s1 hP hS => ?_)
      exact m1_lessLeft_J80 hdc hcl X hM17 hS (lv_sub hl [] rfl) h14 hw
    · refine lv_aload_n hx hb dX1_lessLeft_32 rfl (lv_at hl 1 rfl) ?_
      refine lv_aload_n hx hb dX1_lessLeft_33 rfl (lv_at hl 1 rfl) ?_
      refine r_ga X hS f1_38 dX1_lessLeft_34 ?_
      refine lv_iload_n hx hb dX1_lessLeft_37 rfl (lv_at hl 2 rfl) ?_
      refine z_iconst hx hb dX1_lessLeft_38 ?_
      refine z_add hx hb hw dX1_lessLeft_39 (fun h19 hw => ?_)
      refine z_il X hS a1_38 hw dX1_lessLeft_40 (fun hw => ?_)
      refine lv_aload_n hx hb dX1_lessLeft_41 rfl (lv_at hl 1 rfl) ?_
      refine lv_iload_n hx hb dX1_lessLeft_42 rfl (lv_at hl 2 rfl) ?_
      refine z_callI X hS (m1_manyError r1 hM3 hw) gv1_257 hy1_manyError rfl (by omega) (by decide) (sbs_sub rfl) hl.1 (Nat.le_of_ble_eq_true rfl) dX1_lessLeft_43 rfl (fun x20 V22 Z23 h21 hM24 hw P25 H locs c1 s1 hP hS => ?_)
      refine z_callI X hS (hcl (hM3 38 (a1 + 3)) h21 hM24 hw) gv1_218 hy1_call rfl (by omega) (by decide) (sbs_sub rfl) hl.1 (Nat.le_of_ble_eq_true rfl) dX1_lessLeft_46 rfl (fun x26 V28 Z29 h27 hM30 hw P31 H locs c1 s1 hP hS => ?_)
      refine lv_goto (tgt := 80) hx hb dX1_lessLeft_49 (by decide) ?_
      exact m1_lessLeft_J80 hdc hcl X hM30 hS (lv_sub hl [] rfl) h27 hw
  · refine z_iconst hx hb dX1_lessLeft_26 ?_
    exact z_ri X hS hM3 (⟨by decide, by decide⟩) hw dX1_lessLeft_27
theorem m1_wrapped_J24 {wc : Wc} {dc : Nat} (hdc : 20 ≤ dc) (hcl : ∀ {a1 a2 : Int} {V : Mv} {Z : Le} {Q : Po} {PX : Px} (_ : inR a1) (_ : inR a2) (_ : inM V) (_ : wc a1 a2 V Z Q), MT l S0 E 0 h0 yX1_call cX1_call 5 (some .int) dc true (sbs [15, 16, 17, 18, 20, 22, 23, 24, 25, 26, 27, 29, 30, 31, 32, 38, 51, 52]) [.int (I3 a1), .int (I3 a2)] (toC V) Z (QL Q) (PL PX)) {a1 : Int} {V : Mv} {Z : Le} {Q : Po} {PX : Px} (X : Cx E 0 h0 P0 kc0 ks0 S0 A p l R s m args meth c cX1_wrapped 3 (some .int) (dc + 1)) (hM : inM V) (hS : HS E 0 h0 P0 kc0 ks0 (sbs [15, 16, 17, 18, 20, 22, 23, 24, 25, 26, 27, 29, 30, 31, 32, 38, 51, 52]) A s.heap P (toC V) Z H locs cells slots) (hl : lv_has ls 3 [(0, .ref h0), (1, .int (I3 a1))]) (r1 : inR a1) (hw : w1_wrapped_J24 wc a1 V Z Q) : W p l e R s m args below meth c H locs cells slots (MQx below (QT E 0 h0 true P0 kc0 ks0 (sbs [15, 16, 17, 18, 20, 22, 23, 24, 25, 26, 27, 29, 30, 31, 32, 38, 51, 52]) A (QL Q) (PL PX) s) s) (F0 m 24 ls []) := by
  have hx := X.2.1
  have hb := X.2.2.1
  unfold w1_wrapped_J24 at hw
  refine lv_aload_n hx hb dX1_wrapped_24 rfl (lv_at hl 0 rfl) ?_
  refine z_callI X hS (m1_newPromise  hM hw) gv1_204 hy1_newPromise rfl (by omega) (by decide) (sbs_sub rfl) hl.1 (Nat.le_of_ble_eq_true rfl) dX1_wrapped_25 rfl (fun x1 V3 Z4 h2 hM5 hw P6 H locs c1 s1 hP hS => ?_)
  refine lv_istore_n (lv' := [(2, .int (I3 x1)), (0, .ref h0), (1, .int (I3 a1))]) hx hb dX1_wrapped_28 rfl hl (by decide) rfl (fun ls hl => ?_)
  refine lv_aload_n hx hb dX1_wrapped_29 rfl (lv_at hl 1 rfl) ?_
  refine lv_aload_n hx hb dX1_wrapped_30 rfl (lv_at hl 1 rfl) ?_
  refine lv_iload_n hx hb dX1_wrapped_31 rfl (lv_at hl 0 rfl) ?_
  refine z_callI X hS (m1_functionsOf h2 hM5 hw) gv1_207 hy1_functionsOf rfl (by omega) (by decide) (sbs_sub rfl) hl.1 (Nat.le_of_ble_eq_true rfl) dX1_wrapped_32 rfl (fun x7 V9 Z10 h8 hM11 hw P12 H locs c1 s1 hP hS => ?_)
  refine lv_iload_n hx hb dX1_wrapped_35 rfl (lv_at hl 2 rfl) ?_
  refine z_callI X hS (hcl h8 r1 hM11 hw) gv1_218 hy1_call rfl (by omega) (by decide) (sbs_sub rfl) hl.1 (Nat.le_of_ble_eq_true rfl) dX1_wrapped_36 rfl (fun x13 V15 Z16 h14 hM17 hw P18 H locs c1 s1 hP hS => ?_)
  refine lv_pop hx hb dX1_wrapped_39 rfl ?_
  refine lv_iload_n hx hb dX1_wrapped_40 rfl (lv_at hl 0 rfl) ?_
  exact z_ri X hS hM17 h2 hw dX1_wrapped_41
theorem m1_wrapped {wc : Wc} {dc : Nat} (hdc : 20 ≤ dc) (hcl : ∀ {a1 a2 : Int} {V : Mv} {Z : Le} {Q : Po} {PX : Px} (_ : inR a1) (_ : inR a2) (_ : inM V) (_ : wc a1 a2 V Z Q), MT l S0 E 0 h0 yX1_call cX1_call 5 (some .int) dc true (sbs [15, 16, 17, 18, 20, 22, 23, 24, 25, 26, 27, 29, 30, 31, 32, 38, 51, 52]) [.int (I3 a1), .int (I3 a2)] (toC V) Z (QL Q) (PL PX)) {a1 : Int} {V : Mv} {Z : Le} {Q : Po} {PX : Px} (r1 : inR a1) (hM : inM V) (hw : w1_wrapped wc a1 V Z Q) : MT l S0 E 0 h0 yX1_wrapped cX1_wrapped 3 (some .int) (dc + 1) true (sbs [15, 16, 17, 18, 20, 22, 23, 24, 25, 26, 27, 29, 30, 31, 32, 38, 51, 52]) [.int (I3 a1)] (toC V) Z (QL Q) (PL PX) := by
  refine mt_of Gk0 (by decide) rfl (Nat.le_of_ble_eq_true rfl) ?_
  intro p e s m below meth c A P ls X hS hl
  have hl : lv_has ls 3 [(0, .ref h0), (1, .int (I3 a1))] := hl
  have hx := X.2.1
  have hb := X.2.2.1
  unfold w1_wrapped at hw
  refine lv_iload_n hx hb dX1_wrapped_0 rfl (lv_at hl 1 rfl) ?_
  refine z_isO X hS r1 gs1_197 (by omega) hl.1 (Nat.le_of_ble_eq_true rfl) dX1_wrapped_1 ?_
  refine z_beq (tgt := 24) hx hb  hw dX1_wrapped_4 (by decide) (fun hc hw => ?_) (fun hc hw => ?_)
  · exact m1_wrapped_J24 hdc hcl X hM hS (lv_sub hl [0, 1] rfl) r1 hw
  · refine lv_aload_n hx hb dX1_wrapped_7 rfl (lv_at hl 0 rfl) ?_
    refine r_ga X hS f1_0 dX1_wrapped_8 ?_
    refine lv_iload_n hx hb dX1_wrapped_11 rfl (lv_at hl 1 rfl) ?_
    refine z_id X hS hw gs1_201 (by omega) hl.1 (Nat.le_of_ble_eq_true rfl) dX1_wrapped_12 (fun h19 hw => ?_)
    refine z_il X hS a1_0 hw dX1_wrapped_15 (fun hw => ?_)
    refine z_zne (tgt := 24) hx hb (hM 0 (-2 - a1)) hw dX1_wrapped_16 (by decide) (fun hc hw => ?_) (fun hc hw => ?_)
    · exact m1_wrapped_J24 hdc hcl X hM hS (lv_sub hl [0, 1] rfl) r1 hw
    · refine lv_iload_n hx hb dX1_wrapped_19 rfl (lv_at hl 1 rfl) ?_
      refine z_id X hS hw gs1_201 (by omega) hl.1 (Nat.le_of_ble_eq_true rfl) dX1_wrapped_20 (fun h20 hw => ?_)
      exact z_ri X hS hM h20 hw dX1_wrapped_23
theorem m1_element_J134 {wc : Wc} {dc : Nat} (hdc : 20 ≤ dc) (hcl : ∀ {a1 a2 : Int} {V : Mv} {Z : Le} {Q : Po} {PX : Px} (_ : inR a1) (_ : inR a2) (_ : inM V) (_ : wc a1 a2 V Z Q), MT l S0 E 0 h0 yX1_call cX1_call 5 (some .int) dc true (sbs [15, 16, 17, 18, 20, 22, 23, 24, 25, 26, 27, 29, 30, 31, 32, 38, 51, 52]) [.int (I3 a1), .int (I3 a2)] (toC V) Z (QL Q) (PL PX)) {b1 : Int} {b2 : Int} {V : Mv} {Z : Le} {Q : Po} {PX : Px} (X : Cx E 0 h0 P0 kc0 ks0 S0 A p l R s m args meth c cX1_element 7 (some .int) (dc + 2)) (hM : inM V) (hS : HS E 0 h0 P0 kc0 ks0 (sbs [15, 16, 17, 18, 20, 22, 23, 24, 25, 26, 27, 29, 30, 31, 32, 38, 51, 52]) A s.heap P (toC V) Z H locs cells slots) (hl : lv_has ls 7 []) (sr1 : inR b1) (sr2 : inR b2) (hw : w1_element_J134 wc b1 b2 V Z Q) : W p l e R s m args below meth c H locs cells slots (MQx below (QT E 0 h0 true P0 kc0 ks0 (sbs [15, 16, 17, 18, 20, 22, 23, 24, 25, 26, 27, 29, 30, 31, 32, 38, 51, 52]) A (QL Q) (PL PX) s) s) (F0 m 134 ls [.int (I3 b2), .int (I3 b1), .ref h0]) := by
  have hx := X.2.1
  have hb := X.2.2.1
  unfold w1_element_J134 at hw
  refine z_callI X hS (m1_lessLeft hdc hcl sr1 sr2 hM hw) gv1_253 hy1_lessLeft rfl (by omega) (by decide) (sbs_sub rfl) hl.1 (Nat.le_of_ble_eq_true rfl) dX1_element_134 rfl (fun x1 V3 Z4 h2 hM5 hw P6 H locs c1 s1 hP hS => ?_)
  exact z_ri X hS hM5 h2 hw dX1_element_137
theorem m1_element_J103 {wc : Wc} {dc : Nat} (hdc : 20 ≤ dc) (hcl : ∀ {a1 a2 : Int} {V : Mv} {Z : Le} {Q : Po} {PX : Px} (_ : inR a1) (_ : inR a2) (_ : inM V) (_ : wc a1 a2 V Z Q), MT l S0 E 0 h0 yX1_call cX1_call 5 (some .int) dc true (sbs [15, 16, 17, 18, 20, 22, 23, 24, 25, 26, 27, 29, 30, 31, 32, 38, 51, 52]) [.int (I3 a1), .int (I3 a2)] (toC V) Z (QL Q) (PL PX)) {a1 : Int} {a3 : Int} {a4 : Int} {a5 : Int} {V : Mv} {Z : Le} {Q : Po} {PX : Px} (X : Cx E 0 h0 P0 kc0 ks0 S0 A p l R s m args meth c cX1_element 7 (some .int) (dc + 2)) (hM : inM V) (hS : HS E 0 h0 P0 kc0 ks0 (sbs [15, 16, 17, 18, 20, 22, 23, 24, 25, 26, 27, 29, 30, 31, 32, 38, 51, 52]) A s.heap P (toC V) Z H locs cells slots) (hl : lv_has ls 7 [(0, .ref h0), (1, .int (I3 a1)), (3, .int (I3 a3)), (4, .int (I3 a4)), (5, .int (I3 a5))]) (r1 : inR a1) (r3 : inR a3) (r4 : inR a4) (r5 : inR a5) (hw : w1_element_J103 wc a1 a3 a4 a5 V Z Q) : W p l e R s m args below meth c H locs cells slots (MQx below (QT E 0 h0 true P0 kc0 ks0 (sbs [15, 16, 17, 18, 20, 22, 23, 24, 25, 26, 27, 29, 30, 31, 32, 38, 51, 52]) A (QL Q) (PL PX) s) s) (F0 m 103 ls []) := by
  have hx := X.2.1
  have hb := X.2.2.1
  unfold w1_element_J103 at hw
  refine lv_aload_n hx hb dX1_element_103 rfl (lv_at hl 0 rfl) ?_
  refine r_ga X hS f1_38 dX1_element_104 ?_
  refine lv_iload_n hx hb dX1_element_107 rfl (lv_at hl 2 rfl) ?_
  refine z_iconst hx hb dX1_element_108 ?_
  refine z_add hx hb hw dX1_element_109 (fun h7 hw => ?_)
  refine lv_aload_n hx hb dX1_element_110 rfl (lv_at hl 0 rfl) ?_
  refine r_ga X hS f1_17 dX1_element_111 ?_
  refine lv_iload_n hx hb dX1_element_114 rfl (lv_at hl 1 rfl) ?_
  refine z_il X hS a1_17 hw dX1_element_115 (fun hw => ?_)
  refine z_add hx hb hw dX1_element_116 (fun h8 hw => ?_)
  refine lv_iload hx hb dX1_element_117 (lv_at hl 4 rfl) ?_
  refine z_is X hS hM a1_38 r5 hw dX1_element_119 (fun V9 hM10 hw H locs hS => ?_)
  refine lv_aload_n hx hb dX1_element_120 rfl (lv_at hl 0 rfl) ?_
  refine lv_iload_n hx hb dX1_element_121 rfl (lv_at hl 2 rfl) ?_
  refine lv_iload hx hb dX1_element_122 (lv_at hl 3 rfl) ?_
  refine z_bipush hx hb dX1_element_124 (by decide +kernel) ?_
  refine z_ine (tgt := 133) hx hb r4 (⟨by decide, by decide⟩) hw dX1_element_126 (by decide) (fun hc hw => ?_) (fun hc hw => ?_)
  · refine z_iconst hx hb dX1_element_133 ?_
    exact m1_element_J134 hdc hcl X hM10 hS (lv_sub hl [] rfl) r3 (⟨by decide, by decide⟩) hw
  · refine z_iconst hx hb dX1_element_129 ?_
    refine lv_goto (tgt := 134) hx hb dX1_element_130 (by decide) ?_
    exact m1_element_J134 hdc hcl X hM10 hS (lv_sub hl [] rfl) r3 (⟨by decide, by decide⟩) hw
theorem m1_element_J82 {wc : Wc} {dc : Nat} (hdc : 20 ≤ dc) (hcl : ∀ {a1 a2 : Int} {V : Mv} {Z : Le} {Q : Po} {PX : Px} (_ : inR a1) (_ : inR a2) (_ : inM V) (_ : wc a1 a2 V Z Q), MT l S0 E 0 h0 yX1_call cX1_call 5 (some .int) dc true (sbs [15, 16, 17, 18, 20, 22, 23, 24, 25, 26, 27, 29, 30, 31, 32, 38, 51, 52]) [.int (I3 a1), .int (I3 a2)] (toC V) Z (QL Q) (PL PX)) {a1 : Int} {a2 : Int} {a3 : Int} {a4 : Int} {a6 : Int} {b1 : Int} {b2 : Int} {V : Mv} {Z : Le} {Q : Po} {PX : Px} (X : Cx E 0 h0 P0 kc0 ks0 S0 A p l R s m args meth c cX1_element 7 (some .int) (dc + 2)) (hM : inM V) (hS : HS E 0 h0 P0 kc0 ks0 (sbs [15, 16, 17, 18, 20, 22, 23, 24, 25, 26, 27, 29, 30, 31, 32, 38, 51, 52]) A s.heap P (toC V) Z H locs cells slots) (hl : lv_has ls 7 [(0, .ref h0), (1, .int (I3 a1)), (2, .int (I3 a2)), (3, .int (I3 a3)), (4, .int (I3 a4)), (6, .int (I3 a6))]) (r1 : inR a1) (r2 : inR a2) (r3 : inR a3) (r4 : inR a4) (r6 : inR a6) (sr1 : inR b1) (sr2 : inR b2) (hw : w1_element_J82 wc a1 a2 a3 a4 a6 b1 b2 V Z Q) : W p l e R s m args below meth c H locs cells slots (MQx below (QT E 0 h0 true P0 kc0 ks0 (sbs [15, 16, 17, 18, 20, 22, 23, 24, 25, 26, 27, 29, 30, 31, 32, 38, 51, 52]) A (QL Q) (PL PX) s) s) (F0 m 82 ls [.int (I3 b2), .int (I3 b1), .ref (P 38)]) := by
  have hx := X.2.1
  have hb := X.2.2.1
  unfold w1_element_J82 at hw
  refine z_is X hS hM a1_38 sr2 hw dX1_element_82 (fun V11 hM12 hw H locs hS => ?_)
  refine lv_aload_n hx hb dX1_element_83 rfl (lv_at hl 0 rfl) ?_
  refine r_ga X hS f1_38 dX1_element_84 ?_
  refine lv_iload hx hb dX1_element_87 (lv_at hl 5 rfl) ?_
  refine z_iconst hx hb dX1_element_89 ?_
  refine z_add hx hb hw dX1_element_90 (fun h13 hw => ?_)
  refine lv_iload_n hx hb dX1_element_91 rfl (lv_at hl 2 rfl) ?_
  refine z_is X hS hM12 a1_38 r2 hw dX1_element_92 (fun V14 hM15 hw H locs hS => ?_)
  refine lv_aload_n hx hb dX1_element_93 rfl (lv_at hl 0 rfl) ?_
  refine z_iconst hx hb dX1_element_94 ?_
  refine lv_iload hx hb dX1_element_95 (lv_at hl 5 rfl) ?_
  refine z_iconst hx hb dX1_element_97 ?_
  refine z_callI X hS (m1_holder (⟨by decide, by decide⟩) r6 (⟨by decide, by decide⟩) hM15 hw) gv1_250 hy1_holder rfl (by omega) (by decide) (sbs_sub rfl) hl.1 (Nat.le_of_ble_eq_true rfl) dX1_element_98 rfl (fun x16 V18 Z19 h17 hM20 hw P21 H locs c1 s1 hP hS => ?_)
  refine lv_istore (lv' := [(5, .int (I3 x16)), (0, .ref h0), (1, .int (I3 a1)), (2, .int (I3 a2)), (3, .int (I3 a3)), (4, .int (I3 a4)), (6, .int (I3 a6))]) hx hb dX1_element_101 hl (by decide) rfl (fun ls hl => ?_)
  exact m1_element_J103 hdc hcl X hM20 hS (lv_sub hl [1, 2, 4, 5, 0] rfl) r1 r3 r4 h17 hw
theorem m1_element_J58 {wc : Wc} {dc : Nat} (hdc : 20 ≤ dc) (hcl : ∀ {a1 a2 : Int} {V : Mv} {Z : Le} {Q : Po} {PX : Px} (_ : inR a1) (_ : inR a2) (_ : inM V) (_ : wc a1 a2 V Z Q), MT l S0 E 0 h0 yX1_call cX1_call 5 (some .int) dc true (sbs [15, 16, 17, 18, 20, 22, 23, 24, 25, 26, 27, 29, 30, 31, 32, 38, 51, 52]) [.int (I3 a1), .int (I3 a2)] (toC V) Z (QL Q) (PL PX)) {a1 : Int} {a2 : Int} {a3 : Int} {a4 : Int} {V : Mv} {Z : Le} {Q : Po} {PX : Px} (X : Cx E 0 h0 P0 kc0 ks0 S0 A p l R s m args meth c cX1_element 7 (some .int) (dc + 2)) (hM : inM V) (hS : HS E 0 h0 P0 kc0 ks0 (sbs [15, 16, 17, 18, 20, 22, 23, 24, 25, 26, 27, 29, 30, 31, 32, 38, 51, 52]) A s.heap P (toC V) Z H locs cells slots) (hl : lv_has ls 7 [(0, .ref h0), (1, .int (I3 a1)), (2, .int (I3 a2)), (3, .int (I3 a3)), (4, .int (I3 a4))]) (r1 : inR a1) (r2 : inR a2) (r3 : inR a3) (r4 : inR a4) (hw : w1_element_J58 wc a1 a2 a3 a4 V Z Q) : W p l e R s m args below meth c H locs cells slots (MQx below (QT E 0 h0 true P0 kc0 ks0 (sbs [15, 16, 17, 18, 20, 22, 23, 24, 25, 26, 27, 29, 30, 31, 32, 38, 51, 52]) A (QL Q) (PL PX) s) s) (F0 m 58 ls []) := by
  have hx := X.2.1
  have hb := X.2.2.1
  unfold w1_element_J58 at hw
  refine lv_aload_n hx hb dX1_element_58 rfl (lv_at hl 0 rfl) ?_
  refine z_iconst hx hb dX1_element_59 ?_
  refine z_callI X hS (m1_row (⟨by decide, by decide⟩) hM hw) gv1_247 hy1_row rfl (by omega) (by decide) (sbs_sub rfl) hl.1 (Nat.le_of_ble_eq_true rfl) dX1_element_60 rfl (fun x22 V24 Z25 h23 hM26 hw P27 H locs c1 s1 hP hS => ?_)
  refine lv_istore (lv' := [(6, .int (I3 x22)), (0, .ref h0), (1, .int (I3 a1)), (2, .int (I3 a2)), (3, .int (I3 a3)), (4, .int (I3 a4))]) hx hb dX1_element_63 hl (by decide) rfl (fun ls hl => ?_)
  refine lv_aload_n hx hb dX1_element_65 rfl (lv_at hl 1 rfl) ?_
  refine r_ga X hS f1_38 dX1_element_66 ?_
  refine lv_iload hx hb dX1_element_69 (lv_at hl 0 rfl) ?_
  refine lv_iload hx hb dX1_element_71 (lv_at hl 5 rfl) ?_
  refine z_iconst hx hb dX1_element_73 ?_
  refine z_ine (tgt := 81) hx hb r4 (⟨by decide, by decide⟩) hw dX1_element_74 (by decide) (fun hc hw => ?_) (fun hc hw => ?_)
  · refine z_iconst hx hb dX1_element_81 ?_
    exact m1_element_J82 hdc hcl X hM26 hS (lv_sub hl [1, 2, 3, 4, 5, 0] rfl) r1 r2 r3 r4 h23 h23 (⟨by decide, by decide⟩) hw
  · refine z_iconst hx hb dX1_element_77 ?_
    refine lv_goto (tgt := 82) hx hb dX1_element_78 (by decide) ?_
    exact m1_element_J82 hdc hcl X hM26 hS (lv_sub hl [1, 2, 3, 4, 5, 0] rfl) r1 r2 r3 r4 h23 h23 (⟨by decide, by decide⟩) hw
theorem m1_element {wc : Wc} {dc : Nat} (hdc : 20 ≤ dc) (hcl : ∀ {a1 a2 : Int} {V : Mv} {Z : Le} {Q : Po} {PX : Px} (_ : inR a1) (_ : inR a2) (_ : inM V) (_ : wc a1 a2 V Z Q), MT l S0 E 0 h0 yX1_call cX1_call 5 (some .int) dc true (sbs [15, 16, 17, 18, 20, 22, 23, 24, 25, 26, 27, 29, 30, 31, 32, 38, 51, 52]) [.int (I3 a1), .int (I3 a2)] (toC V) Z (QL Q) (PL PX)) {a1 : Int} {a2 : Int} {V : Mv} {Z : Le} {Q : Po} {PX : Px} (r1 : inR a1) (r2 : inR a2) (hM : inM V) (hw : w1_element wc a1 a2 V Z Q) : MT l S0 E 0 h0 yX1_element cX1_element 7 (some .int) (dc + 2) true (sbs [15, 16, 17, 18, 20, 22, 23, 24, 25, 26, 27, 29, 30, 31, 32, 38, 51, 52]) [.int (I3 a1), .int (I3 a2)] (toC V) Z (QL Q) (PL PX) := by
  refine mt_of Gk0 (by decide) rfl (Nat.le_of_ble_eq_true rfl) ?_
  intro p e s m below meth c A P ls X hS hl
  have hl : lv_has ls 7 [(0, .ref h0), (1, .int (I3 a1)), (2, .int (I3 a2))] := hl
  have hx := X.2.1
  have hb := X.2.2.1
  unfold w1_element at hw
  refine lv_aload_n hx hb dX1_element_0 rfl (lv_at hl 0 rfl) ?_
  refine r_ga X hS f1_20 dX1_element_1 ?_
  refine lv_aload_n hx hb dX1_element_4 rfl (lv_at hl 0 rfl) ?_
  refine r_ga X hS f1_18 dX1_element_5 ?_
  refine lv_iload_n hx hb dX1_element_8 rfl (lv_at hl 1 rfl) ?_
  refine z_il X hS a1_18 hw dX1_element_9 (fun hw => ?_)
  refine z_il X hS a1_20 hw dX1_element_10 (fun hw => ?_)
  refine z_zeq (tgt := 16) hx hb (hM 20 (V 18 a1)) hw dX1_element_11 (by decide) (fun hc hw => ?_) (fun hc hw => ?_)
  · refine lv_aload_n hx hb dX1_element_16 rfl (lv_at hl 0 rfl) ?_
    refine r_ga X hS f1_20 dX1_element_17 ?_
    refine lv_aload_n hx hb dX1_element_20 rfl (lv_at hl 0 rfl) ?_
    refine r_ga X hS f1_18 dX1_element_21 ?_
    refine lv_iload_n hx hb dX1_element_24 rfl (lv_at hl 1 rfl) ?_
    refine z_il X hS a1_18 hw dX1_element_25 (fun hw => ?_)
    refine z_iconst hx hb dX1_element_26 ?_
    refine z_is X hS hM a1_20 (⟨by decide, by decide⟩) hw dX1_element_27 (fun V28 hM29 hw H locs hS => ?_)
    refine lv_aload_n hx hb dX1_element_28 rfl (lv_at hl 0 rfl) ?_
    refine r_ga X hS f1_16 dX1_element_29 ?_
    refine lv_iload_n hx hb dX1_element_32 rfl (lv_at hl 1 rfl) ?_
    refine z_il X hS a1_16 hw dX1_element_33 (fun hw => ?_)
    refine lv_istore_n (lv' := [(3, .int (I3 (V28 16 a1))), (0, .ref h0), (1, .int (I3 a1)), (2, .int (I3 a2))]) hx hb dX1_element_34 rfl hl (by decide) rfl (fun ls hl => ?_)
    refine lv_aload_n hx hb dX1_element_35 rfl (lv_at hl 1 rfl) ?_
    refine r_ga X hS f1_15 dX1_element_36 ?_
    refine lv_iload_n hx hb dX1_element_39 rfl (lv_at hl 2 rfl) ?_
    refine z_il X hS a1_15 hw dX1_element_40 (fun hw => ?_)
    refine lv_istore (lv' := [(4, .int (I3 (V28 15 a1))), (3, .int (I3 (V28 16 a1))), (0, .ref h0), (1, .int (I3 a1)), (2, .int (I3 a2))]) hx hb dX1_element_41 hl (by decide) rfl (fun ls hl => ?_)
    refine lv_iload_n hx hb dX1_element_43 rfl (lv_at hl 4 rfl) ?_
    refine lv_istore (lv' := [(5, .int (I3 a2)), (4, .int (I3 (V28 15 a1))), (3, .int (I3 (V28 16 a1))), (0, .ref h0), (1, .int (I3 a1)), (2, .int (I3 a2))]) hx hb dX1_element_44 hl (by decide) rfl (fun ls hl => ?_)
    refine lv_iload hx hb dX1_element_46 (lv_at hl 1 rfl) ?_
    refine z_iconst hx hb dX1_element_48 ?_
    refine z_ieq (tgt := 58) hx hb (hM29 15 a1) (⟨by decide, by decide⟩) hw dX1_element_49 (by decide) (fun hc hw => ?_) (fun hc hw => ?_)
    · exact m1_element_J58 hdc hcl X hM29 hS (lv_sub hl [3, 4, 5, 2, 1] rfl) r1 r2 (hM29 16 a1) (hM29 15 a1) hw
    · refine lv_iload hx hb dX1_element_52 (lv_at hl 1 rfl) ?_
      refine z_iconst hx hb dX1_element_54 ?_
      refine z_ine (tgt := 103) hx hb (hM29 15 a1) (⟨by decide, by decide⟩) hw dX1_element_55 (by decide) (fun hc hw => ?_) (fun hc hw => ?_)
      · exact m1_element_J103 hdc hcl X hM29 hS (lv_sub hl [3, 4, 2, 1, 0] rfl) r1 (hM29 16 a1) (hM29 15 a1) r2 hw
      · exact m1_element_J58 hdc hcl X hM29 hS (lv_sub hl [3, 4, 5, 2, 1] rfl) r1 r2 (hM29 16 a1) (hM29 15 a1) hw
  · refine z_iconst hx hb dX1_element_14 ?_
    exact z_ri X hS hM (⟨by decide, by decide⟩) hw dX1_element_15
end WALK
