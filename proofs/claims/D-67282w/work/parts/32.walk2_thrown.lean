set_option maxRecDepth 100000
theorem dX2_thrown_0 : decode cX2_thrown 0 = .ok (.aload_n 0, 1) := by decide +kernel
theorem dX2_thrown_1 : decode cX2_thrown 1 = .ok (.getfield 131, 3) := by decide +kernel
theorem dX2_thrown_4 : decode cX2_thrown 4 = .ok (.ireturn, 1) := by decide +kernel
theorem dX2_fails_0 : decode cX2_fails 0 = .ok (.aload_n 0, 1) := by decide +kernel
theorem dX2_fails_1 : decode cX2_fails 1 = .ok (.iload_n 1, 1) := by decide +kernel
theorem dX2_fails_2 : decode cX2_fails 2 = .ok (.putfield 131, 3) := by decide +kernel
theorem dX2_fails_5 : decode cX2_fails 5 = .ok (.iconst 0, 1) := by decide +kernel
theorem dX2_fails_6 : decode cX2_fails 6 = .ok (.ireturn, 1) := by decide +kernel
theorem dX2_isObject_0 : decode cX2_isObject 0 = .ok (.iload_n 1, 1) := by decide +kernel
theorem dX2_isObject_1 : decode cX2_isObject 1 = .ok (.bipush (-2), 2) := by decide +kernel
theorem dX2_isObject_3 : decode cX2_isObject 3 = .ok (.if_icmp .gt 25, 3) := by decide +kernel
theorem dX2_isObject_6 : decode cX2_isObject 6 = .ok (.bipush (-2), 2) := by decide +kernel
theorem dX2_isObject_8 : decode cX2_isObject 8 = .ok (.iload_n 1, 1) := by decide +kernel
theorem dX2_isObject_9 : decode cX2_isObject 9 = .ok (.isub, 1) := by decide +kernel
theorem dX2_isObject_10 : decode cX2_isObject 10 = .ok (.aload_n 0, 1) := by decide +kernel
theorem dX2_isObject_11 : decode cX2_isObject 11 = .ok (.getfield 135, 3) := by decide +kernel
theorem dX2_isObject_14 : decode cX2_isObject 14 = .ok (.if_icmp .ge 14, 3) := by decide +kernel
theorem dX2_isObject_17 : decode cX2_isObject 17 = .ok (.bipush (-2), 2) := by decide +kernel
theorem dX2_isObject_19 : decode cX2_isObject 19 = .ok (.iload_n 1, 1) := by decide +kernel
theorem dX2_isObject_20 : decode cX2_isObject 20 = .ok (.isub, 1) := by decide +kernel
theorem dX2_isObject_21 : decode cX2_isObject 21 = .ok (.ifCond .lt 7, 3) := by decide +kernel
theorem dX2_isObject_24 : decode cX2_isObject 24 = .ok (.iconst 1, 1) := by decide +kernel
theorem dX2_isObject_25 : decode cX2_isObject 25 = .ok (.goto 4, 3) := by decide +kernel
theorem dX2_isObject_28 : decode cX2_isObject 28 = .ok (.iconst 0, 1) := by decide +kernel
theorem dX2_isObject_29 : decode cX2_isObject 29 = .ok (.ireturn, 1) := by decide +kernel
theorem dX2_isValue_0 : decode cX2_isValue 0 = .ok (.iload_n 1, 1) := by decide +kernel
theorem dX2_isValue_1 : decode cX2_isValue 1 = .ok (.iconst (-1), 1) := by decide +kernel
theorem dX2_isValue_2 : decode cX2_isValue 2 = .ok (.if_icmp .lt 10, 3) := by decide +kernel
theorem dX2_isValue_5 : decode cX2_isValue 5 = .ok (.iload_n 1, 1) := by decide +kernel
theorem dX2_isValue_6 : decode cX2_isValue 6 = .ok (.sipush 1000, 3) := by decide +kernel
theorem dX2_isValue_9 : decode cX2_isValue 9 = .ok (.if_icmp .lt 11, 3) := by decide +kernel
theorem dX2_isValue_12 : decode cX2_isValue 12 = .ok (.aload_n 0, 1) := by decide +kernel
theorem dX2_isValue_13 : decode cX2_isValue 13 = .ok (.iload_n 1, 1) := by decide +kernel
theorem dX2_isValue_14 : decode cX2_isValue 14 = .ok (.invokevirtual 138, 3) := by decide +kernel
theorem dX2_isValue_17 : decode cX2_isValue 17 = .ok (.ifCond .eq 7, 3) := by decide +kernel
theorem dX2_isValue_20 : decode cX2_isValue 20 = .ok (.iconst 1, 1) := by decide +kernel
theorem dX2_isValue_21 : decode cX2_isValue 21 = .ok (.goto 4, 3) := by decide +kernel
theorem dX2_isValue_24 : decode cX2_isValue 24 = .ok (.iconst 0, 1) := by decide +kernel
theorem dX2_isValue_25 : decode cX2_isValue 25 = .ok (.ireturn, 1) := by decide +kernel
theorem dX2_isKind_0 : decode cX2_isKind 0 = .ok (.aload_n 0, 1) := by decide +kernel
theorem dX2_isKind_1 : decode cX2_isKind 1 = .ok (.iload_n 1, 1) := by decide +kernel
theorem dX2_isKind_2 : decode cX2_isKind 2 = .ok (.invokevirtual 138, 3) := by decide +kernel
theorem dX2_isKind_5 : decode cX2_isKind 5 = .ok (.ifCond .eq 20, 3) := by decide +kernel
theorem dX2_isKind_8 : decode cX2_isKind 8 = .ok (.aload_n 0, 1) := by decide +kernel
theorem dX2_isKind_9 : decode cX2_isKind 9 = .ok (.getfield 7, 3) := by decide +kernel
theorem dX2_isKind_12 : decode cX2_isKind 12 = .ok (.bipush (-2), 2) := by decide +kernel
theorem dX2_isKind_14 : decode cX2_isKind 14 = .ok (.iload_n 1, 1) := by decide +kernel
theorem dX2_isKind_15 : decode cX2_isKind 15 = .ok (.isub, 1) := by decide +kernel
theorem dX2_isKind_16 : decode cX2_isKind 16 = .ok (.iaload, 1) := by decide +kernel
theorem dX2_isKind_17 : decode cX2_isKind 17 = .ok (.iload_n 2, 1) := by decide +kernel
theorem dX2_isKind_18 : decode cX2_isKind 18 = .ok (.if_icmp .ne 7, 3) := by decide +kernel
theorem dX2_isKind_21 : decode cX2_isKind 21 = .ok (.iconst 1, 1) := by decide +kernel
theorem dX2_isKind_22 : decode cX2_isKind 22 = .ok (.goto 4, 3) := by decide +kernel
theorem dX2_isKind_25 : decode cX2_isKind 25 = .ok (.iconst 0, 1) := by decide +kernel
theorem dX2_isKind_26 : decode cX2_isKind 26 = .ok (.ireturn, 1) := by decide +kernel
theorem dX2_isHandler_0 : decode cX2_isHandler 0 = .ok (.iload_n 1, 1) := by decide +kernel
theorem dX2_isHandler_1 : decode cX2_isHandler 1 = .ok (.ifCond .lt 15, 3) := by decide +kernel
theorem dX2_isHandler_4 : decode cX2_isHandler 4 = .ok (.iload_n 1, 1) := by decide +kernel
theorem dX2_isHandler_5 : decode cX2_isHandler 5 = .ok (.aload_n 0, 1) := by decide +kernel
theorem dX2_isHandler_6 : decode cX2_isHandler 6 = .ok (.getfield 142, 3) := by decide +kernel
theorem dX2_isHandler_9 : decode cX2_isHandler 9 = .ok (.if_icmp .ge 7, 3) := by decide +kernel
theorem dX2_isHandler_12 : decode cX2_isHandler 12 = .ok (.iconst 1, 1) := by decide +kernel
theorem dX2_isHandler_13 : decode cX2_isHandler 13 = .ok (.goto 4, 3) := by decide +kernel
theorem dX2_isHandler_16 : decode cX2_isHandler 16 = .ok (.iconst 0, 1) := by decide +kernel
theorem dX2_isHandler_17 : decode cX2_isHandler 17 = .ok (.ireturn, 1) := by decide +kernel
theorem dX2_isFull_0 : decode cX2_isFull 0 = .ok (.sipush 3000, 3) := by decide +kernel
theorem dX2_isFull_3 : decode cX2_isFull 3 = .ok (.aload_n 0, 1) := by decide +kernel
theorem dX2_isFull_4 : decode cX2_isFull 4 = .ok (.getfield 135, 3) := by decide +kernel
theorem dX2_isFull_7 : decode cX2_isFull 7 = .ok (.isub, 1) := by decide +kernel
theorem dX2_isFull_8 : decode cX2_isFull 8 = .ok (.iload_n 1, 1) := by decide +kernel
theorem dX2_isFull_9 : decode cX2_isFull 9 = .ok (.if_icmp .ge 7, 3) := by decide +kernel
theorem dX2_isFull_12 : decode cX2_isFull 12 = .ok (.iconst 1, 1) := by decide +kernel
theorem dX2_isFull_13 : decode cX2_isFull 13 = .ok (.goto 4, 3) := by decide +kernel
theorem dX2_isFull_16 : decode cX2_isFull 16 = .ok (.iconst 0, 1) := by decide +kernel
theorem dX2_isFull_17 : decode cX2_isFull 17 = .ok (.ireturn, 1) := by decide +kernel
theorem dX2_newObject_0 : decode cX2_newObject 0 = .ok (.aload_n 0, 1) := by decide +kernel
theorem dX2_newObject_1 : decode cX2_newObject 1 = .ok (.getfield 135, 3) := by decide +kernel
theorem dX2_newObject_4 : decode cX2_newObject 4 = .ok (.istore_n 2, 1) := by decide +kernel
theorem dX2_newObject_5 : decode cX2_newObject 5 = .ok (.aload_n 0, 1) := by decide +kernel
theorem dX2_newObject_6 : decode cX2_newObject 6 = .ok (.dup, 1) := by decide +kernel
theorem dX2_newObject_7 : decode cX2_newObject 7 = .ok (.getfield 135, 3) := by decide +kernel
theorem dX2_newObject_10 : decode cX2_newObject 10 = .ok (.iconst 1, 1) := by decide +kernel
theorem dX2_newObject_11 : decode cX2_newObject 11 = .ok (.iadd, 1) := by decide +kernel
theorem dX2_newObject_12 : decode cX2_newObject 12 = .ok (.putfield 135, 3) := by decide +kernel
theorem dX2_newObject_15 : decode cX2_newObject 15 = .ok (.aload_n 0, 1) := by decide +kernel
theorem dX2_newObject_16 : decode cX2_newObject 16 = .ok (.getfield 7, 3) := by decide +kernel
theorem dX2_newObject_19 : decode cX2_newObject 19 = .ok (.iload_n 2, 1) := by decide +kernel
theorem dX2_newObject_20 : decode cX2_newObject 20 = .ok (.iload_n 1, 1) := by decide +kernel
theorem dX2_newObject_21 : decode cX2_newObject 21 = .ok (.iastore, 1) := by decide +kernel
theorem dX2_newObject_22 : decode cX2_newObject 22 = .ok (.aload_n 0, 1) := by decide +kernel
theorem dX2_newObject_23 : decode cX2_newObject 23 = .ok (.getfield 13, 3) := by decide +kernel
theorem dX2_newObject_26 : decode cX2_newObject 26 = .ok (.iload_n 2, 1) := by decide +kernel
theorem dX2_newObject_27 : decode cX2_newObject 27 = .ok (.iconst 0, 1) := by decide +kernel
theorem dX2_newObject_28 : decode cX2_newObject 28 = .ok (.iastore, 1) := by decide +kernel
theorem dX2_newObject_29 : decode cX2_newObject 29 = .ok (.aload_n 0, 1) := by decide +kernel
theorem dX2_newObject_30 : decode cX2_newObject 30 = .ok (.getfield 16, 3) := by decide +kernel
theorem dX2_newObject_33 : decode cX2_newObject 33 = .ok (.iload_n 2, 1) := by decide +kernel
theorem dX2_newObject_34 : decode cX2_newObject 34 = .ok (.iconst (-1), 1) := by decide +kernel
theorem dX2_newObject_35 : decode cX2_newObject 35 = .ok (.iastore, 1) := by decide +kernel
theorem dX2_newObject_36 : decode cX2_newObject 36 = .ok (.aload_n 0, 1) := by decide +kernel
theorem dX2_newObject_37 : decode cX2_newObject 37 = .ok (.getfield 19, 3) := by decide +kernel
theorem dX2_newObject_40 : decode cX2_newObject 40 = .ok (.iload_n 2, 1) := by decide +kernel
theorem dX2_newObject_41 : decode cX2_newObject 41 = .ok (.iconst (-1), 1) := by decide +kernel
theorem dX2_newObject_42 : decode cX2_newObject 42 = .ok (.iastore, 1) := by decide +kernel
theorem dX2_newObject_43 : decode cX2_newObject 43 = .ok (.aload_n 0, 1) := by decide +kernel
theorem dX2_newObject_44 : decode cX2_newObject 44 = .ok (.getfield 22, 3) := by decide +kernel
theorem dX2_newObject_47 : decode cX2_newObject 47 = .ok (.iload_n 2, 1) := by decide +kernel
theorem dX2_newObject_48 : decode cX2_newObject 48 = .ok (.iconst (-1), 1) := by decide +kernel
theorem dX2_newObject_49 : decode cX2_newObject 49 = .ok (.iastore, 1) := by decide +kernel
theorem dX2_newObject_50 : decode cX2_newObject 50 = .ok (.iload_n 2, 1) := by decide +kernel
theorem dX2_newObject_51 : decode cX2_newObject 51 = .ok (.ireturn, 1) := by decide +kernel
theorem dX2_record_0 : decode cX2_record 0 = .ok (.aload_n 0, 1) := by decide +kernel
theorem dX2_record_1 : decode cX2_record 1 = .ok (.getfield 145, 3) := by decide +kernel
theorem dX2_record_4 : decode cX2_record 4 = .ok (.istore_n 2, 1) := by decide +kernel
theorem dX2_record_5 : decode cX2_record 5 = .ok (.aload_n 0, 1) := by decide +kernel
theorem dX2_record_6 : decode cX2_record 6 = .ok (.dup, 1) := by decide +kernel
theorem dX2_record_7 : decode cX2_record 7 = .ok (.getfield 145, 3) := by decide +kernel
theorem dX2_record_10 : decode cX2_record 10 = .ok (.iconst 1, 1) := by decide +kernel
theorem dX2_record_11 : decode cX2_record 11 = .ok (.iadd, 1) := by decide +kernel
theorem dX2_record_12 : decode cX2_record 12 = .ok (.putfield 145, 3) := by decide +kernel
theorem dX2_record_15 : decode cX2_record 15 = .ok (.aload_n 0, 1) := by decide +kernel
theorem dX2_record_16 : decode cX2_record 16 = .ok (.getfield 44, 3) := by decide +kernel
theorem dX2_record_19 : decode cX2_record 19 = .ok (.iload_n 2, 1) := by decide +kernel
theorem dX2_record_20 : decode cX2_record 20 = .ok (.iload_n 1, 1) := by decide +kernel
theorem dX2_record_21 : decode cX2_record 21 = .ok (.iastore, 1) := by decide +kernel
theorem dX2_record_22 : decode cX2_record 22 = .ok (.aload_n 0, 1) := by decide +kernel
theorem dX2_record_23 : decode cX2_record 23 = .ok (.getfield 47, 3) := by decide +kernel
theorem dX2_record_26 : decode cX2_record 26 = .ok (.iload_n 2, 1) := by decide +kernel
theorem dX2_record_27 : decode cX2_record 27 = .ok (.iconst 0, 1) := by decide +kernel
theorem dX2_record_28 : decode cX2_record 28 = .ok (.bastore, 1) := by decide +kernel
theorem dX2_record_29 : decode cX2_record 29 = .ok (.iload_n 2, 1) := by decide +kernel
theorem dX2_record_30 : decode cX2_record 30 = .ok (.ireturn, 1) := by decide +kernel
theorem dX2_capability_0 : decode cX2_capability 0 = .ok (.aload_n 0, 1) := by decide +kernel
theorem dX2_capability_1 : decode cX2_capability 1 = .ok (.aload_n 0, 1) := by decide +kernel
theorem dX2_capability_2 : decode cX2_capability 2 = .ok (.iconst 0, 1) := by decide +kernel
theorem dX2_capability_3 : decode cX2_capability 3 = .ok (.invokevirtual 148, 3) := by decide +kernel
theorem dX2_capability_6 : decode cX2_capability 6 = .ok (.invokevirtual 152, 3) := by decide +kernel
theorem dX2_capability_9 : decode cX2_capability 9 = .ok (.ireturn, 1) := by decide +kernel
theorem dX2_react_0 : decode cX2_react 0 = .ok (.aload_n 0, 1) := by decide +kernel
theorem dX2_react_1 : decode cX2_react 1 = .ok (.getfield 83, 3) := by decide +kernel
theorem dX2_react_4 : decode cX2_react 4 = .ok (.aload_n 0, 1) := by decide +kernel
theorem dX2_react_5 : decode cX2_react 5 = .ok (.getfield 162, 3) := by decide +kernel
theorem dX2_react_8 : decode cX2_react 8 = .ok (.iconst 0, 1) := by decide +kernel
theorem dX2_react_9 : decode cX2_react 9 = .ok (.bastore, 1) := by decide +kernel
theorem dX2_react_10 : decode cX2_react 10 = .ok (.aload_n 0, 1) := by decide +kernel
theorem dX2_react_11 : decode cX2_react 11 = .ok (.getfield 80, 3) := by decide +kernel
theorem dX2_react_14 : decode cX2_react 14 = .ok (.aload_n 0, 1) := by decide +kernel
theorem dX2_react_15 : decode cX2_react 15 = .ok (.getfield 162, 3) := by decide +kernel
theorem dX2_react_18 : decode cX2_react 18 = .ok (.iload_n 2, 1) := by decide +kernel
theorem dX2_react_19 : decode cX2_react 19 = .ok (.iconst 2, 1) := by decide +kernel
theorem dX2_react_20 : decode cX2_react 20 = .ok (.if_icmp .ne 7, 3) := by decide +kernel
theorem dX2_react_23 : decode cX2_react 23 = .ok (.iconst 1, 1) := by decide +kernel
theorem dX2_react_24 : decode cX2_react 24 = .ok (.goto 4, 3) := by decide +kernel
theorem dX2_react_27 : decode cX2_react 27 = .ok (.iconst 0, 1) := by decide +kernel
theorem dX2_react_28 : decode cX2_react 28 = .ok (.bastore, 1) := by decide +kernel
theorem dX2_react_29 : decode cX2_react 29 = .ok (.aload_n 0, 1) := by decide +kernel
theorem dX2_react_30 : decode cX2_react 30 = .ok (.getfield 68, 3) := by decide +kernel
theorem dX2_react_33 : decode cX2_react 33 = .ok (.aload_n 0, 1) := by decide +kernel
theorem dX2_react_34 : decode cX2_react 34 = .ok (.getfield 162, 3) := by decide +kernel
theorem dX2_react_37 : decode cX2_react 37 = .ok (.iload_n 2, 1) := by decide +kernel
theorem dX2_react_38 : decode cX2_react 38 = .ok (.iconst 2, 1) := by decide +kernel
theorem dX2_react_39 : decode cX2_react 39 = .ok (.if_icmp .ne 12, 3) := by decide +kernel
theorem dX2_react_42 : decode cX2_react 42 = .ok (.aload_n 0, 1) := by decide +kernel
theorem dX2_react_43 : decode cX2_react 43 = .ok (.getfield 62, 3) := by decide +kernel
theorem dX2_react_46 : decode cX2_react 46 = .ok (.iload_n 1, 1) := by decide +kernel
theorem dX2_react_47 : decode cX2_react 47 = .ok (.iaload, 1) := by decide +kernel
theorem dX2_react_48 : decode cX2_react 48 = .ok (.goto 9, 3) := by decide +kernel
theorem dX2_react_51 : decode cX2_react 51 = .ok (.aload_n 0, 1) := by decide +kernel
theorem dX2_react_52 : decode cX2_react 52 = .ok (.getfield 56, 3) := by decide +kernel
theorem dX2_react_55 : decode cX2_react 55 = .ok (.iload_n 1, 1) := by decide +kernel
theorem dX2_react_56 : decode cX2_react 56 = .ok (.iaload, 1) := by decide +kernel
theorem dX2_react_57 : decode cX2_react 57 = .ok (.iastore, 1) := by decide +kernel
theorem dX2_react_58 : decode cX2_react 58 = .ok (.aload_n 0, 1) := by decide +kernel
theorem dX2_react_59 : decode cX2_react 59 = .ok (.getfield 71, 3) := by decide +kernel
theorem dX2_react_62 : decode cX2_react 62 = .ok (.aload_n 0, 1) := by decide +kernel
theorem dX2_react_63 : decode cX2_react 63 = .ok (.getfield 162, 3) := by decide +kernel
theorem dX2_react_66 : decode cX2_react 66 = .ok (.iload_n 2, 1) := by decide +kernel
theorem dX2_react_67 : decode cX2_react 67 = .ok (.iconst 2, 1) := by decide +kernel
theorem dX2_react_68 : decode cX2_react 68 = .ok (.if_icmp .ne 12, 3) := by decide +kernel
theorem dX2_react_71 : decode cX2_react 71 = .ok (.aload_n 0, 1) := by decide +kernel
theorem dX2_react_72 : decode cX2_react 72 = .ok (.getfield 65, 3) := by decide +kernel
theorem dX2_react_75 : decode cX2_react 75 = .ok (.iload_n 1, 1) := by decide +kernel
theorem dX2_react_76 : decode cX2_react 76 = .ok (.iaload, 1) := by decide +kernel
theorem dX2_react_77 : decode cX2_react 77 = .ok (.goto 9, 3) := by decide +kernel
theorem dX2_react_80 : decode cX2_react 80 = .ok (.aload_n 0, 1) := by decide +kernel
theorem dX2_react_81 : decode cX2_react 81 = .ok (.getfield 59, 3) := by decide +kernel
theorem dX2_react_84 : decode cX2_react 84 = .ok (.iload_n 1, 1) := by decide +kernel
theorem dX2_react_85 : decode cX2_react 85 = .ok (.iaload, 1) := by decide +kernel
theorem dX2_react_86 : decode cX2_react 86 = .ok (.iastore, 1) := by decide +kernel
theorem dX2_react_87 : decode cX2_react 87 = .ok (.aload_n 0, 1) := by decide +kernel
theorem dX2_react_88 : decode cX2_react 88 = .ok (.getfield 74, 3) := by decide +kernel
theorem dX2_react_91 : decode cX2_react 91 = .ok (.aload_n 0, 1) := by decide +kernel
theorem dX2_react_92 : decode cX2_react 92 = .ok (.getfield 162, 3) := by decide +kernel
theorem dX2_react_95 : decode cX2_react 95 = .ok (.aload_n 0, 1) := by decide +kernel
theorem dX2_react_96 : decode cX2_react 96 = .ok (.getfield 53, 3) := by decide +kernel
theorem dX2_react_99 : decode cX2_react 99 = .ok (.iload_n 1, 1) := by decide +kernel
theorem dX2_react_100 : decode cX2_react 100 = .ok (.iaload, 1) := by decide +kernel
theorem dX2_react_101 : decode cX2_react 101 = .ok (.iastore, 1) := by decide +kernel
theorem dX2_react_102 : decode cX2_react 102 = .ok (.aload_n 0, 1) := by decide +kernel
theorem dX2_react_103 : decode cX2_react 103 = .ok (.getfield 77, 3) := by decide +kernel
theorem dX2_react_106 : decode cX2_react 106 = .ok (.aload_n 0, 1) := by decide +kernel
theorem dX2_react_107 : decode cX2_react 107 = .ok (.getfield 162, 3) := by decide +kernel
theorem dX2_react_110 : decode cX2_react 110 = .ok (.iload_n 3, 1) := by decide +kernel
theorem dX2_react_111 : decode cX2_react 111 = .ok (.iastore, 1) := by decide +kernel
theorem dX2_react_112 : decode cX2_react 112 = .ok (.aload_n 0, 1) := by decide +kernel
theorem dX2_react_113 : decode cX2_react 113 = .ok (.dup, 1) := by decide +kernel
theorem dX2_react_114 : decode cX2_react 114 = .ok (.getfield 162, 3) := by decide +kernel
theorem dX2_react_117 : decode cX2_react 117 = .ok (.iconst 1, 1) := by decide +kernel
theorem dX2_react_118 : decode cX2_react 118 = .ok (.iadd, 1) := by decide +kernel
theorem dX2_react_119 : decode cX2_react 119 = .ok (.putfield 162, 3) := by decide +kernel
theorem dX2_react_122 : decode cX2_react 122 = .ok (.return_, 1) := by decide +kernel
theorem dX2_settle_2_0 : decode cX2_settle_2 0 = .ok (.aload_n 0, 1) := by decide +kernel
theorem dX2_settle_2_1 : decode cX2_settle_2 1 = .ok (.getfield 13, 3) := by decide +kernel
theorem dX2_settle_2_4 : decode cX2_settle_2 4 = .ok (.iload_n 1, 1) := by decide +kernel
theorem dX2_settle_2_5 : decode cX2_settle_2 5 = .ok (.iload_n 2, 1) := by decide +kernel
theorem dX2_settle_2_6 : decode cX2_settle_2 6 = .ok (.iastore, 1) := by decide +kernel
theorem dX2_settle_2_7 : decode cX2_settle_2 7 = .ok (.aload_n 0, 1) := by decide +kernel
theorem dX2_settle_2_8 : decode cX2_settle_2 8 = .ok (.getfield 16, 3) := by decide +kernel
theorem dX2_settle_2_11 : decode cX2_settle_2 11 = .ok (.iload_n 1, 1) := by decide +kernel
theorem dX2_settle_2_12 : decode cX2_settle_2 12 = .ok (.iload_n 3, 1) := by decide +kernel
theorem dX2_settle_2_13 : decode cX2_settle_2 13 = .ok (.iastore, 1) := by decide +kernel
theorem dX2_settle_2_14 : decode cX2_settle_2 14 = .ok (.aload_n 0, 1) := by decide +kernel
theorem dX2_settle_2_15 : decode cX2_settle_2 15 = .ok (.getfield 19, 3) := by decide +kernel
theorem dX2_settle_2_18 : decode cX2_settle_2 18 = .ok (.iload_n 1, 1) := by decide +kernel
theorem dX2_settle_2_19 : decode cX2_settle_2 19 = .ok (.iaload, 1) := by decide +kernel
theorem dX2_settle_2_20 : decode cX2_settle_2 20 = .ok (.istore 4, 2) := by decide +kernel
theorem dX2_settle_2_22 : decode cX2_settle_2 22 = .ok (.iload 4, 2) := by decide +kernel
theorem dX2_settle_2_24 : decode cX2_settle_2 24 = .ok (.ifCond .lt 23, 3) := by decide +kernel
theorem dX2_settle_2_27 : decode cX2_settle_2 27 = .ok (.aload_n 0, 1) := by decide +kernel
theorem dX2_settle_2_28 : decode cX2_settle_2 28 = .ok (.iload 4, 2) := by decide +kernel
theorem dX2_settle_2_30 : decode cX2_settle_2 30 = .ok (.iload_n 2, 1) := by decide +kernel
theorem dX2_settle_2_31 : decode cX2_settle_2 31 = .ok (.iload_n 3, 1) := by decide +kernel
theorem dX2_settle_2_32 : decode cX2_settle_2 32 = .ok (.invokevirtual 165, 3) := by decide +kernel
theorem dX2_settle_2_35 : decode cX2_settle_2 35 = .ok (.aload_n 0, 1) := by decide +kernel
theorem dX2_settle_2_36 : decode cX2_settle_2 36 = .ok (.getfield 50, 3) := by decide +kernel
theorem dX2_settle_2_39 : decode cX2_settle_2 39 = .ok (.iload 4, 2) := by decide +kernel
theorem dX2_settle_2_41 : decode cX2_settle_2 41 = .ok (.iaload, 1) := by decide +kernel
theorem dX2_settle_2_42 : decode cX2_settle_2 42 = .ok (.istore 4, 2) := by decide +kernel
theorem dX2_settle_2_44 : decode cX2_settle_2 44 = .ok (.goto (-22), 3) := by decide +kernel
theorem dX2_settle_2_47 : decode cX2_settle_2 47 = .ok (.aload_n 0, 1) := by decide +kernel
theorem dX2_settle_2_48 : decode cX2_settle_2 48 = .ok (.getfield 19, 3) := by decide +kernel
theorem dX2_settle_2_51 : decode cX2_settle_2 51 = .ok (.iload_n 1, 1) := by decide +kernel
theorem dX2_settle_2_52 : decode cX2_settle_2 52 = .ok (.iconst (-1), 1) := by decide +kernel
theorem dX2_settle_2_53 : decode cX2_settle_2 53 = .ok (.iastore, 1) := by decide +kernel
theorem dX2_settle_2_54 : decode cX2_settle_2 54 = .ok (.return_, 1) := by decide +kernel
section WALK
variable {p : Program} {l : Launch} {e : Env} {R : Room} {s : State} {m : MethodId} {args : Array Value} {below : List Frame} {meth : Method} {c : Code} {H : Heap} {locs : List Loc} {cells slots : Nat}
variable {E : Ev} {h0 : Nat} {P0 : Le} {kc0 ks0 : Nat} {S0 : State} {A : Nat → Prop} {P : Le} {ls : Array Slot}
theorem m2_thrown {V : Mv} {Q : Int → Mv → Prop} {PX : Px} (hM : inM V) (hw : w2_thrown  V Q) : MT l S0 E 1 h0 yX2_thrown cX2_thrown 1 (some .int) 1 true (sbs []) [] (toC V) ZM (QL (fun x V1 Z1 => Z1 = ZM ∧ Q x V1)) (PL PX) := by
  refine mt_of Gk1 (by decide) rfl (Nat.le_of_ble_eq_true rfl) ?_
  intro p e s m below meth c A P ls X hS hl
  have hl : lv_has ls 1 [(0, .ref h0)] := hl
  have hx := X.2.1
  have hb := X.2.2.1
  unfold w2_thrown at hw
  refine lv_aload_n hx hb dX2_thrown_0 rfl (lv_at hl 0 rfl) ?_
  refine z_gi X hS f2_0 dX2_thrown_1 ?_
  exact z_ri X hS hM (hM 0 0) ⟨rfl, hw⟩ dX2_thrown_4
theorem m2_fails {a1 : Int} {V : Mv} {Q : Int → Mv → Prop} {PX : Px} (r1 : inR a1) (hM : inM V) (hw : w2_fails a1 V Q) : MT l S0 E 1 h0 yX2_fails cX2_fails 2 (some .int) 1 true (sbs []) [.int (I3 a1)] (toC V) ZM (QL (fun x V1 Z1 => Z1 = ZM ∧ Q x V1)) (PL PX) := by
  refine mt_of Gk1 (by decide) rfl (Nat.le_of_ble_eq_true rfl) ?_
  intro p e s m below meth c A P ls X hS hl
  have hl : lv_has ls 2 [(0, .ref h0), (1, .int (I3 a1))] := hl
  have hx := X.2.1
  have hb := X.2.2.1
  unfold w2_fails at hw
  refine lv_aload_n hx hb dX2_fails_0 rfl (lv_at hl 0 rfl) ?_
  refine lv_iload_n hx hb dX2_fails_1 rfl (lv_at hl 1 rfl) ?_
  refine z_pi X hS hM f2_0 p2_0 r1 hw dX2_fails_2 (fun V1 hM2 hw H locs hS => ?_)
  refine z_iconst hx hb dX2_fails_5 ?_
  exact z_ri X hS hM2 (⟨by decide, by decide⟩) ⟨rfl, hw⟩ dX2_fails_6
theorem m2_isObject_J29 {b0 : Int} {V : Mv} {Q : Int → Mv → Prop} {PX : Px} (X : Cx E 1 h0 P0 kc0 ks0 S0 A p l R s m args meth c cX2_isObject 2 (some .boolean) 1) (hM : inM V) (hS : HS E 1 h0 P0 kc0 ks0 (sbs []) A s.heap P (toC V) ZM H locs cells slots) (hl : lv_has ls 2 []) (sr0 : inR b0) (hw : w2_isObject_J29 b0 V Q) : W p l e R s m args below meth c H locs cells slots (MQx below (QT E 1 h0 true P0 kc0 ks0 (sbs []) A (QL (fun x V1 Z1 => Z1 = ZM ∧ Q x V1)) (PL PX) s) s) (F0 m 29 ls [.int (I3 b0)]) := by
  have hx := X.2.1
  have hb := X.2.2.1
  unfold w2_isObject_J29 at hw
  exact z_rz X hS hM sr0 ⟨hw.1, rfl, hw.2⟩ dX2_isObject_29
theorem m2_isObject_J28 {V : Mv} {Q : Int → Mv → Prop} {PX : Px} (X : Cx E 1 h0 P0 kc0 ks0 S0 A p l R s m args meth c cX2_isObject 2 (some .boolean) 1) (hM : inM V) (hS : HS E 1 h0 P0 kc0 ks0 (sbs []) A s.heap P (toC V) ZM H locs cells slots) (hl : lv_has ls 2 []) (hw : w2_isObject_J28  V Q) : W p l e R s m args below meth c H locs cells slots (MQx below (QT E 1 h0 true P0 kc0 ks0 (sbs []) A (QL (fun x V1 Z1 => Z1 = ZM ∧ Q x V1)) (PL PX) s) s) (F0 m 28 ls []) := by
  have hx := X.2.1
  have hb := X.2.2.1
  unfold w2_isObject_J28 at hw
  refine z_iconst hx hb dX2_isObject_28 ?_
  exact m2_isObject_J29 X hM hS (lv_sub hl [] rfl) (⟨by decide, by decide⟩) hw
theorem m2_isObject {a1 : Int} {V : Mv} {Q : Int → Mv → Prop} {PX : Px} (r1 : inR a1) (hM : inM V) (hw : w2_isObject a1 V Q) : MT l S0 E 1 h0 yX2_isObject cX2_isObject 2 (some .boolean) 1 true (sbs []) [.int (I3 a1)] (toC V) ZM (QL (fun x V1 Z1 => Z1 = ZM ∧ Q x V1)) (PL PX) := by
  refine mt_of Gk1 (by decide) rfl (Nat.le_of_ble_eq_true rfl) ?_
  intro p e s m below meth c A P ls X hS hl
  have hl : lv_has ls 2 [(0, .ref h0), (1, .int (I3 a1))] := hl
  have hx := X.2.1
  have hb := X.2.2.1
  unfold w2_isObject at hw
  refine lv_iload_n hx hb dX2_isObject_0 rfl (lv_at hl 1 rfl) ?_
  refine z_bipush hx hb dX2_isObject_1 (by decide +kernel) ?_
  refine z_igt (tgt := 28) hx hb r1 (⟨by decide, by decide⟩) hw dX2_isObject_3 (by decide) (fun hc hw => ?_) (fun hc hw => ?_)
  · exact m2_isObject_J28 X hM hS (lv_sub hl [] rfl)  hw
  · refine z_bipush hx hb dX2_isObject_6 (by decide +kernel) ?_
    refine lv_iload_n hx hb dX2_isObject_8 rfl (lv_at hl 1 rfl) ?_
    refine z_sub hx hb hw dX2_isObject_9 (fun h1 hw => ?_)
    refine lv_aload_n hx hb dX2_isObject_10 rfl (lv_at hl 0 rfl) ?_
    refine z_gi X hS f2_1 dX2_isObject_11 ?_
    refine z_ige (tgt := 28) hx hb h1 (hM 1 0) hw dX2_isObject_14 (by decide) (fun hc hw => ?_) (fun hc hw => ?_)
    · exact m2_isObject_J28 X hM hS (lv_sub hl [] rfl)  hw
    · refine z_bipush hx hb dX2_isObject_17 (by decide +kernel) ?_
      refine lv_iload_n hx hb dX2_isObject_19 rfl (lv_at hl 1 rfl) ?_
      refine z_sub hx hb hw dX2_isObject_20 (fun h2 hw => ?_)
      refine z_zlt (tgt := 28) hx hb h2 hw dX2_isObject_21 (by decide) (fun hc hw => ?_) (fun hc hw => ?_)
      · exact m2_isObject_J28 X hM hS (lv_sub hl [] rfl)  hw
      · refine z_iconst hx hb dX2_isObject_24 ?_
        refine lv_goto (tgt := 29) hx hb dX2_isObject_25 (by decide) ?_
        exact m2_isObject_J29 X hM hS (lv_sub hl [] rfl) (⟨by decide, by decide⟩) hw
theorem m2_isValue_J25 {b0 : Int} {V : Mv} {Q : Int → Mv → Prop} {PX : Px} (X : Cx E 1 h0 P0 kc0 ks0 S0 A p l R s m args meth c cX2_isValue 2 (some .boolean) 2) (hM : inM V) (hS : HS E 1 h0 P0 kc0 ks0 (sbs []) A s.heap P (toC V) ZM H locs cells slots) (hl : lv_has ls 2 []) (sr0 : inR b0) (hw : w2_isValue_J25 b0 V Q) : W p l e R s m args below meth c H locs cells slots (MQx below (QT E 1 h0 true P0 kc0 ks0 (sbs []) A (QL (fun x V1 Z1 => Z1 = ZM ∧ Q x V1)) (PL PX) s) s) (F0 m 25 ls [.int (I3 b0)]) := by
  have hx := X.2.1
  have hb := X.2.2.1
  unfold w2_isValue_J25 at hw
  exact z_rz X hS hM sr0 ⟨hw.1, rfl, hw.2⟩ dX2_isValue_25
theorem m2_isValue_J20 {V : Mv} {Q : Int → Mv → Prop} {PX : Px} (X : Cx E 1 h0 P0 kc0 ks0 S0 A p l R s m args meth c cX2_isValue 2 (some .boolean) 2) (hM : inM V) (hS : HS E 1 h0 P0 kc0 ks0 (sbs []) A s.heap P (toC V) ZM H locs cells slots) (hl : lv_has ls 2 []) (hw : w2_isValue_J20  V Q) : W p l e R s m args below meth c H locs cells slots (MQx below (QT E 1 h0 true P0 kc0 ks0 (sbs []) A (QL (fun x V1 Z1 => Z1 = ZM ∧ Q x V1)) (PL PX) s) s) (F0 m 20 ls []) := by
  have hx := X.2.1
  have hb := X.2.2.1
  unfold w2_isValue_J20 at hw
  refine z_iconst hx hb dX2_isValue_20 ?_
  refine lv_goto (tgt := 25) hx hb dX2_isValue_21 (by decide) ?_
  exact m2_isValue_J25 X hM hS (lv_sub hl [] rfl) (⟨by decide, by decide⟩) hw
theorem m2_isValue_J12 {a1 : Int} {V : Mv} {Q : Int → Mv → Prop} {PX : Px} (X : Cx E 1 h0 P0 kc0 ks0 S0 A p l R s m args meth c cX2_isValue 2 (some .boolean) 2) (hM : inM V) (hS : HS E 1 h0 P0 kc0 ks0 (sbs []) A s.heap P (toC V) ZM H locs cells slots) (hl : lv_has ls 2 [(0, .ref h0), (1, .int (I3 a1))]) (r1 : inR a1) (hw : w2_isValue_J12 a1 V Q) : W p l e R s m args below meth c H locs cells slots (MQx below (QT E 1 h0 true P0 kc0 ks0 (sbs []) A (QL (fun x V1 Z1 => Z1 = ZM ∧ Q x V1)) (PL PX) s) s) (F0 m 12 ls []) := by
  have hx := X.2.1
  have hb := X.2.2.1
  unfold w2_isValue_J12 at hw
  refine lv_aload_n hx hb dX2_isValue_12 rfl (lv_at hl 0 rfl) ?_
  refine lv_iload_n hx hb dX2_isValue_13 rfl (lv_at hl 1 rfl) ?_
  refine z_callI X hS (m2_isObject r1 hM hw) gv2_138 hy2_isObject rfl (by omega) (by decide) (sbs_sub rfl) hl.1 (Nat.le_of_ble_eq_true rfl) dX2_isValue_14 rfl (fun x1 V3 Z6 h2 hM4 hw P5 H locs c1 s1 hP hS => ?_)
  obtain ⟨rfl, hw⟩ := hw
  refine z_zeq (tgt := 24) hx hb h2 hw dX2_isValue_17 (by decide) (fun hc hw => ?_) (fun hc hw => ?_)
  · refine z_iconst hx hb dX2_isValue_24 ?_
    exact m2_isValue_J25 X hM4 hS (lv_sub hl [] rfl) (⟨by decide, by decide⟩) hw
  · exact m2_isValue_J20 X hM4 hS (lv_sub hl [] rfl)  hw
theorem m2_isValue {a1 : Int} {V : Mv} {Q : Int → Mv → Prop} {PX : Px} (r1 : inR a1) (hM : inM V) (hw : w2_isValue a1 V Q) : MT l S0 E 1 h0 yX2_isValue cX2_isValue 2 (some .boolean) 2 true (sbs []) [.int (I3 a1)] (toC V) ZM (QL (fun x V1 Z1 => Z1 = ZM ∧ Q x V1)) (PL PX) := by
  refine mt_of Gk1 (by decide) rfl (Nat.le_of_ble_eq_true rfl) ?_
  intro p e s m below meth c A P ls X hS hl
  have hl : lv_has ls 2 [(0, .ref h0), (1, .int (I3 a1))] := hl
  have hx := X.2.1
  have hb := X.2.2.1
  unfold w2_isValue at hw
  refine lv_iload_n hx hb dX2_isValue_0 rfl (lv_at hl 1 rfl) ?_
  refine z_iconst hx hb dX2_isValue_1 ?_
  refine z_ilt (tgt := 12) hx hb r1 (⟨by decide, by decide⟩) hw dX2_isValue_2 (by decide) (fun hc hw => ?_) (fun hc hw => ?_)
  · exact m2_isValue_J12 X hM hS (lv_sub hl [0, 1] rfl) r1 hw
  · refine lv_iload_n hx hb dX2_isValue_5 rfl (lv_at hl 1 rfl) ?_
    refine z_sipush hx hb dX2_isValue_6 (by decide +kernel) ?_
    refine z_ilt (tgt := 20) hx hb r1 (⟨by decide, by decide⟩) hw dX2_isValue_9 (by decide) (fun hc hw => ?_) (fun hc hw => ?_)
    · exact m2_isValue_J20 X hM hS (lv_sub hl [] rfl)  hw
    · exact m2_isValue_J12 X hM hS (lv_sub hl [0, 1] rfl) r1 hw
theorem m2_isKind_J26 {b0 : Int} {V : Mv} {Q : Int → Mv → Prop} {PX : Px} (X : Cx E 1 h0 P0 kc0 ks0 S0 A p l R s m args meth c cX2_isKind 3 (some .boolean) 2) (hM : inM V) (hS : HS E 1 h0 P0 kc0 ks0 (sbs []) A s.heap P (toC V) ZM H locs cells slots) (hl : lv_has ls 3 []) (sr0 : inR b0) (hw : w2_isKind_J26 b0 V Q) : W p l e R s m args below meth c H locs cells slots (MQx below (QT E 1 h0 true P0 kc0 ks0 (sbs []) A (QL (fun x V1 Z1 => Z1 = ZM ∧ Q x V1)) (PL PX) s) s) (F0 m 26 ls [.int (I3 b0)]) := by
  have hx := X.2.1
  have hb := X.2.2.1
  unfold w2_isKind_J26 at hw
  exact z_rz X hS hM sr0 ⟨hw.1, rfl, hw.2⟩ dX2_isKind_26
theorem m2_isKind_J25 {V : Mv} {Q : Int → Mv → Prop} {PX : Px} (X : Cx E 1 h0 P0 kc0 ks0 S0 A p l R s m args meth c cX2_isKind 3 (some .boolean) 2) (hM : inM V) (hS : HS E 1 h0 P0 kc0 ks0 (sbs []) A s.heap P (toC V) ZM H locs cells slots) (hl : lv_has ls 3 []) (hw : w2_isKind_J25  V Q) : W p l e R s m args below meth c H locs cells slots (MQx below (QT E 1 h0 true P0 kc0 ks0 (sbs []) A (QL (fun x V1 Z1 => Z1 = ZM ∧ Q x V1)) (PL PX) s) s) (F0 m 25 ls []) := by
  have hx := X.2.1
  have hb := X.2.2.1
  unfold w2_isKind_J25 at hw
  refine z_iconst hx hb dX2_isKind_25 ?_
  exact m2_isKind_J26 X hM hS (lv_sub hl [] rfl) (⟨by decide, by decide⟩) hw
theorem m2_isKind {a1 : Int} {a2 : Int} {V : Mv} {Q : Int → Mv → Prop} {PX : Px} (r1 : inR a1) (r2 : inR a2) (hM : inM V) (hw : w2_isKind a1 a2 V Q) : MT l S0 E 1 h0 yX2_isKind cX2_isKind 3 (some .boolean) 2 true (sbs []) [.int (I3 a1), .int (I3 a2)] (toC V) ZM (QL (fun x V1 Z1 => Z1 = ZM ∧ Q x V1)) (PL PX) := by
  refine mt_of Gk1 (by decide) rfl (Nat.le_of_ble_eq_true rfl) ?_
  intro p e s m below meth c A P ls X hS hl
  have hl : lv_has ls 3 [(0, .ref h0), (1, .int (I3 a1)), (2, .int (I3 a2))] := hl
  have hx := X.2.1
  have hb := X.2.2.1
  unfold w2_isKind at hw
  refine lv_aload_n hx hb dX2_isKind_0 rfl (lv_at hl 0 rfl) ?_
  refine lv_iload_n hx hb dX2_isKind_1 rfl (lv_at hl 1 rfl) ?_
  refine z_callI X hS (m2_isObject r1 hM hw) gv2_138 hy2_isObject rfl (by omega) (by decide) (sbs_sub rfl) hl.1 (Nat.le_of_ble_eq_true rfl) dX2_isKind_2 rfl (fun x1 V3 Z6 h2 hM4 hw P5 H locs c1 s1 hP hS => ?_)
  obtain ⟨rfl, hw⟩ := hw
  refine z_zeq (tgt := 25) hx hb h2 hw dX2_isKind_5 (by decide) (fun hc hw => ?_) (fun hc hw => ?_)
  · exact m2_isKind_J25 X hM4 hS (lv_sub hl [] rfl)  hw
  · refine lv_aload_n hx hb dX2_isKind_8 rfl (lv_at hl 0 rfl) ?_
    refine r_ga X hS f2_2 dX2_isKind_9 ?_
    refine z_bipush hx hb dX2_isKind_12 (by decide +kernel) ?_
    refine lv_iload_n hx hb dX2_isKind_14 rfl (lv_at hl 1 rfl) ?_
    refine z_sub hx hb hw dX2_isKind_15 (fun h7 hw => ?_)
    refine z_il X hS a2_2 hw dX2_isKind_16 (fun hw => ?_)
    refine lv_iload_n hx hb dX2_isKind_17 rfl (lv_at hl 2 rfl) ?_
    refine z_ine (tgt := 25) hx hb (hM4 2 ((-2) - a1)) r2 hw dX2_isKind_18 (by decide) (fun hc hw => ?_) (fun hc hw => ?_)
    · exact m2_isKind_J25 X hM4 hS (lv_sub hl [] rfl)  hw
    · refine z_iconst hx hb dX2_isKind_21 ?_
      refine lv_goto (tgt := 26) hx hb dX2_isKind_22 (by decide) ?_
      exact m2_isKind_J26 X hM4 hS (lv_sub hl [] rfl) (⟨by decide, by decide⟩) hw
theorem m2_isHandler_J17 {b0 : Int} {V : Mv} {Q : Int → Mv → Prop} {PX : Px} (X : Cx E 1 h0 P0 kc0 ks0 S0 A p l R s m args meth c cX2_isHandler 2 (some .boolean) 1) (hM : inM V) (hS : HS E 1 h0 P0 kc0 ks0 (sbs []) A s.heap P (toC V) ZM H locs cells slots) (hl : lv_has ls 2 []) (sr0 : inR b0) (hw : w2_isHandler_J17 b0 V Q) : W p l e R s m args below meth c H locs cells slots (MQx below (QT E 1 h0 true P0 kc0 ks0 (sbs []) A (QL (fun x V1 Z1 => Z1 = ZM ∧ Q x V1)) (PL PX) s) s) (F0 m 17 ls [.int (I3 b0)]) := by
  have hx := X.2.1
  have hb := X.2.2.1
  unfold w2_isHandler_J17 at hw
  exact z_rz X hS hM sr0 ⟨hw.1, rfl, hw.2⟩ dX2_isHandler_17
theorem m2_isHandler_J16 {V : Mv} {Q : Int → Mv → Prop} {PX : Px} (X : Cx E 1 h0 P0 kc0 ks0 S0 A p l R s m args meth c cX2_isHandler 2 (some .boolean) 1) (hM : inM V) (hS : HS E 1 h0 P0 kc0 ks0 (sbs []) A s.heap P (toC V) ZM H locs cells slots) (hl : lv_has ls 2 []) (hw : w2_isHandler_J16  V Q) : W p l e R s m args below meth c H locs cells slots (MQx below (QT E 1 h0 true P0 kc0 ks0 (sbs []) A (QL (fun x V1 Z1 => Z1 = ZM ∧ Q x V1)) (PL PX) s) s) (F0 m 16 ls []) := by
  have hx := X.2.1
  have hb := X.2.2.1
  unfold w2_isHandler_J16 at hw
  refine z_iconst hx hb dX2_isHandler_16 ?_
  exact m2_isHandler_J17 X hM hS (lv_sub hl [] rfl) (⟨by decide, by decide⟩) hw
theorem m2_isHandler {a1 : Int} {V : Mv} {Q : Int → Mv → Prop} {PX : Px} (r1 : inR a1) (hM : inM V) (hw : w2_isHandler a1 V Q) : MT l S0 E 1 h0 yX2_isHandler cX2_isHandler 2 (some .boolean) 1 true (sbs []) [.int (I3 a1)] (toC V) ZM (QL (fun x V1 Z1 => Z1 = ZM ∧ Q x V1)) (PL PX) := by
  refine mt_of Gk1 (by decide) rfl (Nat.le_of_ble_eq_true rfl) ?_
  intro p e s m below meth c A P ls X hS hl
  have hl : lv_has ls 2 [(0, .ref h0), (1, .int (I3 a1))] := hl
  have hx := X.2.1
  have hb := X.2.2.1
  unfold w2_isHandler at hw
  refine lv_iload_n hx hb dX2_isHandler_0 rfl (lv_at hl 1 rfl) ?_
  refine z_zlt (tgt := 16) hx hb r1 hw dX2_isHandler_1 (by decide) (fun hc hw => ?_) (fun hc hw => ?_)
  · exact m2_isHandler_J16 X hM hS (lv_sub hl [] rfl)  hw
  · refine lv_iload_n hx hb dX2_isHandler_4 rfl (lv_at hl 1 rfl) ?_
    refine lv_aload_n hx hb dX2_isHandler_5 rfl (lv_at hl 0 rfl) ?_
    refine z_gi X hS f2_33 dX2_isHandler_6 ?_
    refine z_ige (tgt := 16) hx hb r1 (hM 33 0) hw dX2_isHandler_9 (by decide) (fun hc hw => ?_) (fun hc hw => ?_)
    · exact m2_isHandler_J16 X hM hS (lv_sub hl [] rfl)  hw
    · refine z_iconst hx hb dX2_isHandler_12 ?_
      refine lv_goto (tgt := 17) hx hb dX2_isHandler_13 (by decide) ?_
      exact m2_isHandler_J17 X hM hS (lv_sub hl [] rfl) (⟨by decide, by decide⟩) hw
theorem m2_isFull_J17 {b0 : Int} {V : Mv} {Q : Int → Mv → Prop} {PX : Px} (X : Cx E 1 h0 P0 kc0 ks0 S0 A p l R s m args meth c cX2_isFull 2 (some .boolean) 1) (hM : inM V) (hS : HS E 1 h0 P0 kc0 ks0 (sbs []) A s.heap P (toC V) ZM H locs cells slots) (hl : lv_has ls 2 []) (sr0 : inR b0) (hw : w2_isFull_J17 b0 V Q) : W p l e R s m args below meth c H locs cells slots (MQx below (QT E 1 h0 true P0 kc0 ks0 (sbs []) A (QL (fun x V1 Z1 => Z1 = ZM ∧ Q x V1)) (PL PX) s) s) (F0 m 17 ls [.int (I3 b0)]) := by
  have hx := X.2.1
  have hb := X.2.2.1
  unfold w2_isFull_J17 at hw
  exact z_rz X hS hM sr0 ⟨hw.1, rfl, hw.2⟩ dX2_isFull_17
theorem m2_isFull {a1 : Int} {V : Mv} {Q : Int → Mv → Prop} {PX : Px} (r1 : inR a1) (hM : inM V) (hw : w2_isFull a1 V Q) : MT l S0 E 1 h0 yX2_isFull cX2_isFull 2 (some .boolean) 1 true (sbs []) [.int (I3 a1)] (toC V) ZM (QL (fun x V1 Z1 => Z1 = ZM ∧ Q x V1)) (PL PX) := by
  refine mt_of Gk1 (by decide) rfl (Nat.le_of_ble_eq_true rfl) ?_
  intro p e s m below meth c A P ls X hS hl
  have hl : lv_has ls 2 [(0, .ref h0), (1, .int (I3 a1))] := hl
  have hx := X.2.1
  have hb := X.2.2.1
  unfold w2_isFull at hw
  refine z_sipush hx hb dX2_isFull_0 (by decide +kernel) ?_
  refine lv_aload_n hx hb dX2_isFull_3 rfl (lv_at hl 0 rfl) ?_
  refine z_gi X hS f2_1 dX2_isFull_4 ?_
  refine z_sub hx hb hw dX2_isFull_7 (fun h1 hw => ?_)
  refine lv_iload_n hx hb dX2_isFull_8 rfl (lv_at hl 1 rfl) ?_
  refine z_ige (tgt := 16) hx hb h1 r1 hw dX2_isFull_9 (by decide) (fun hc hw => ?_) (fun hc hw => ?_)
  · refine z_iconst hx hb dX2_isFull_16 ?_
    exact m2_isFull_J17 X hM hS (lv_sub hl [] rfl) (⟨by decide, by decide⟩) hw
  · refine z_iconst hx hb dX2_isFull_12 ?_
    refine lv_goto (tgt := 17) hx hb dX2_isFull_13 (by decide) ?_
    exact m2_isFull_J17 X hM hS (lv_sub hl [] rfl) (⟨by decide, by decide⟩) hw
theorem m2_newObject {a1 : Int} {V : Mv} {Q : Int → Mv → Prop} {PX : Px} (r1 : inR a1) (hM : inM V) (hw : w2_newObject a1 V Q) : MT l S0 E 1 h0 yX2_newObject cX2_newObject 3 (some .int) 1 true (sbs []) [.int (I3 a1)] (toC V) ZM (QL (fun x V1 Z1 => Z1 = ZM ∧ Q x V1)) (PL PX) := by
  refine mt_of Gk1 (by decide) rfl (Nat.le_of_ble_eq_true rfl) ?_
  intro p e s m below meth c A P ls X hS hl
  have hl : lv_has ls 3 [(0, .ref h0), (1, .int (I3 a1))] := hl
  have hx := X.2.1
  have hb := X.2.2.1
  unfold w2_newObject at hw
  refine lv_aload_n hx hb dX2_newObject_0 rfl (lv_at hl 0 rfl) ?_
  refine z_gi X hS f2_1 dX2_newObject_1 ?_
  refine lv_istore_n (lv' := [(2, .int (I3 (V 1 0))), (0, .ref h0), (1, .int (I3 a1))]) hx hb dX2_newObject_4 rfl hl (by decide) rfl (fun ls hl => ?_)
  refine lv_aload_n hx hb dX2_newObject_5 rfl (lv_at hl 1 rfl) ?_
  refine lv_dup hx hb dX2_newObject_6 rfl ?_
  refine z_gi X hS f2_1 dX2_newObject_7 ?_
  refine z_iconst hx hb dX2_newObject_10 ?_
  refine z_add hx hb hw dX2_newObject_11 (fun h1 hw => ?_)
  refine z_pi X hS hM f2_1 p2_1 h1 hw dX2_newObject_12 (fun V2 hM3 hw H locs hS => ?_)
  refine lv_aload_n hx hb dX2_newObject_15 rfl (lv_at hl 1 rfl) ?_
  refine r_ga X hS f2_2 dX2_newObject_16 ?_
  refine lv_iload_n hx hb dX2_newObject_19 rfl (lv_at hl 0 rfl) ?_
  refine lv_iload_n hx hb dX2_newObject_20 rfl (lv_at hl 2 rfl) ?_
  refine z_is X hS hM3 a2_2 r1 hw dX2_newObject_21 (fun V4 hM5 hw H locs hS => ?_)
  refine lv_aload_n hx hb dX2_newObject_22 rfl (lv_at hl 1 rfl) ?_
  refine r_ga X hS f2_3 dX2_newObject_23 ?_
  refine lv_iload_n hx hb dX2_newObject_26 rfl (lv_at hl 0 rfl) ?_
  refine z_iconst hx hb dX2_newObject_27 ?_
  refine z_is X hS hM5 a2_3 (⟨by decide, by decide⟩) hw dX2_newObject_28 (fun V6 hM7 hw H locs hS => ?_)
  refine lv_aload_n hx hb dX2_newObject_29 rfl (lv_at hl 1 rfl) ?_
  refine r_ga X hS f2_4 dX2_newObject_30 ?_
  refine lv_iload_n hx hb dX2_newObject_33 rfl (lv_at hl 0 rfl) ?_
  refine z_iconst hx hb dX2_newObject_34 ?_
  refine z_is X hS hM7 a2_4 (⟨by decide, by decide⟩) hw dX2_newObject_35 (fun V8 hM9 hw H locs hS => ?_)
  refine lv_aload_n hx hb dX2_newObject_36 rfl (lv_at hl 1 rfl) ?_
  refine r_ga X hS f2_5 dX2_newObject_37 ?_
  refine lv_iload_n hx hb dX2_newObject_40 rfl (lv_at hl 0 rfl) ?_
  refine z_iconst hx hb dX2_newObject_41 ?_
  refine z_is X hS hM9 a2_5 (⟨by decide, by decide⟩) hw dX2_newObject_42 (fun V10 hM11 hw H locs hS => ?_)
  refine lv_aload_n hx hb dX2_newObject_43 rfl (lv_at hl 1 rfl) ?_
  refine r_ga X hS f2_6 dX2_newObject_44 ?_
  refine lv_iload_n hx hb dX2_newObject_47 rfl (lv_at hl 0 rfl) ?_
  refine z_iconst hx hb dX2_newObject_48 ?_
  refine z_is X hS hM11 a2_6 (⟨by decide, by decide⟩) hw dX2_newObject_49 (fun V12 hM13 hw H locs hS => ?_)
  refine lv_iload_n hx hb dX2_newObject_50 rfl (lv_at hl 0 rfl) ?_
  exact z_ri X hS hM13 (hM 1 0) ⟨rfl, hw⟩ dX2_newObject_51
theorem m2_record {a1 : Int} {V : Mv} {Q : Int → Mv → Prop} {PX : Px} (r1 : inR a1) (hM : inM V) (hw : w2_record a1 V Q) : MT l S0 E 1 h0 yX2_record cX2_record 3 (some .int) 1 true (sbs []) [.int (I3 a1)] (toC V) ZM (QL (fun x V1 Z1 => Z1 = ZM ∧ Q x V1)) (PL PX) := by
  refine mt_of Gk1 (by decide) rfl (Nat.le_of_ble_eq_true rfl) ?_
  intro p e s m below meth c A P ls X hS hl
  have hl : lv_has ls 3 [(0, .ref h0), (1, .int (I3 a1))] := hl
  have hx := X.2.1
  have hb := X.2.2.1
  unfold w2_record at hw
  refine lv_aload_n hx hb dX2_record_0 rfl (lv_at hl 0 rfl) ?_
  refine z_gi X hS f2_15 dX2_record_1 ?_
  refine lv_istore_n (lv' := [(2, .int (I3 (V 15 0))), (0, .ref h0), (1, .int (I3 a1))]) hx hb dX2_record_4 rfl hl (by decide) rfl (fun ls hl => ?_)
  refine lv_aload_n hx hb dX2_record_5 rfl (lv_at hl 1 rfl) ?_
  refine lv_dup hx hb dX2_record_6 rfl ?_
  refine z_gi X hS f2_15 dX2_record_7 ?_
  refine z_iconst hx hb dX2_record_10 ?_
  refine z_add hx hb hw dX2_record_11 (fun h1 hw => ?_)
  refine z_pi X hS hM f2_15 p2_15 h1 hw dX2_record_12 (fun V2 hM3 hw H locs hS => ?_)
  refine lv_aload_n hx hb dX2_record_15 rfl (lv_at hl 1 rfl) ?_
  refine r_ga X hS f2_13 dX2_record_16 ?_
  refine lv_iload_n hx hb dX2_record_19 rfl (lv_at hl 0 rfl) ?_
  refine lv_iload_n hx hb dX2_record_20 rfl (lv_at hl 2 rfl) ?_
  refine z_is X hS hM3 a2_13 r1 hw dX2_record_21 (fun V4 hM5 hw H locs hS => ?_)
  refine lv_aload_n hx hb dX2_record_22 rfl (lv_at hl 1 rfl) ?_
  refine r_ga X hS f2_14 dX2_record_23 ?_
  refine lv_iload_n hx hb dX2_record_26 rfl (lv_at hl 0 rfl) ?_
  refine z_iconst hx hb dX2_record_27 ?_
  refine z_zs X hS hM5 a2_14 (⟨by decide, by decide⟩) hw dX2_record_28 (fun V6 hM7 hw H locs hS => ?_)
  refine lv_iload_n hx hb dX2_record_29 rfl (lv_at hl 0 rfl) ?_
  exact z_ri X hS hM7 (hM 15 0) ⟨rfl, hw⟩ dX2_record_30
theorem m2_capability {V : Mv} {Q : Int → Mv → Prop} {PX : Px} (hM : inM V) (hw : w2_capability  V Q) : MT l S0 E 1 h0 yX2_capability cX2_capability 1 (some .int) 2 true (sbs []) [] (toC V) ZM (QL (fun x V1 Z1 => Z1 = ZM ∧ Q x V1)) (PL PX) := by
  refine mt_of Gk1 (by decide) rfl (Nat.le_of_ble_eq_true rfl) ?_
  intro p e s m below meth c A P ls X hS hl
  have hl : lv_has ls 1 [(0, .ref h0)] := hl
  have hx := X.2.1
  have hb := X.2.2.1
  unfold w2_capability at hw
  refine lv_aload_n hx hb dX2_capability_0 rfl (lv_at hl 0 rfl) ?_
  refine lv_aload_n hx hb dX2_capability_1 rfl (lv_at hl 0 rfl) ?_
  refine z_iconst hx hb dX2_capability_2 ?_
  refine z_callI X hS (m2_newObject (⟨by decide, by decide⟩) hM hw) gv2_148 hy2_newObject rfl (by omega) (by decide) (sbs_sub rfl) hl.1 (Nat.le_of_ble_eq_true rfl) dX2_capability_3 rfl (fun x1 V3 Z6 h2 hM4 hw P5 H locs c1 s1 hP hS => ?_)
  obtain ⟨rfl, hw⟩ := hw
  refine z_callI X hS (m2_record h2 hM4 hw) gv2_152 hy2_record rfl (by omega) (by decide) (sbs_sub rfl) hl.1 (Nat.le_of_ble_eq_true rfl) dX2_capability_6 rfl (fun x7 V9 Z12 h8 hM10 hw P11 H locs c1 s1 hP hS => ?_)
  obtain ⟨rfl, hw⟩ := hw
  exact z_ri X hS hM10 h8 ⟨rfl, hw⟩ dX2_capability_9
theorem m2_react_J86 {a1 : Int} {a3 : Int} {b1 : Int} {b2 : Int} {V : Mv} {Q : Int → Mv → Prop} {PX : Px} (X : Cx E 1 h0 P0 kc0 ks0 S0 A p l R s m args meth c cX2_react 4 none 1) (hM : inM V) (hS : HS E 1 h0 P0 kc0 ks0 (sbs []) A s.heap P (toC V) ZM H locs cells slots) (hl : lv_has ls 4 [(0, .ref h0), (1, .int (I3 a1)), (3, .int (I3 a3))]) (r1 : inR a1) (r3 : inR a3) (sr1 : inR b1) (sr2 : inR b2) (hw : w2_react_J86 a1 a3 b1 b2 V Q) : W p l e R s m args below meth c H locs cells slots (MQx below (QT E 1 h0 false P0 kc0 ks0 (sbs []) A (QL (fun x V1 Z1 => Z1 = ZM ∧ Q x V1)) (PL PX) s) s) (F0 m 86 ls [.int (I3 b2), .int (I3 b1), .ref (P 24)]) := by
  have hx := X.2.1
  have hb := X.2.2.1
  unfold w2_react_J86 at hw
  refine z_is X hS hM a2_24 sr2 hw dX2_react_86 (fun V1 hM2 hw H locs hS => ?_)
  refine lv_aload_n hx hb dX2_react_87 rfl (lv_at hl 0 rfl) ?_
  refine r_ga X hS f2_25 dX2_react_88 ?_
  refine lv_aload_n hx hb dX2_react_91 rfl (lv_at hl 0 rfl) ?_
  refine z_gi X hS f2_30 dX2_react_92 ?_
  refine lv_aload_n hx hb dX2_react_95 rfl (lv_at hl 0 rfl) ?_
  refine r_ga X hS f2_17 dX2_react_96 ?_
  refine lv_iload_n hx hb dX2_react_99 rfl (lv_at hl 1 rfl) ?_
  refine z_il X hS a2_17 hw dX2_react_100 (fun hw => ?_)
  refine z_is X hS hM2 a2_25 (hM2 17 a1) hw dX2_react_101 (fun V3 hM4 hw H locs hS => ?_)
  refine lv_aload_n hx hb dX2_react_102 rfl (lv_at hl 0 rfl) ?_
  refine r_ga X hS f2_26 dX2_react_103 ?_
  refine lv_aload_n hx hb dX2_react_106 rfl (lv_at hl 0 rfl) ?_
  refine z_gi X hS f2_30 dX2_react_107 ?_
  refine lv_iload_n hx hb dX2_react_110 rfl (lv_at hl 2 rfl) ?_
  refine z_is X hS hM4 a2_26 r3 hw dX2_react_111 (fun V5 hM6 hw H locs hS => ?_)
  refine lv_aload_n hx hb dX2_react_112 rfl (lv_at hl 0 rfl) ?_
  refine lv_dup hx hb dX2_react_113 rfl ?_
  refine z_gi X hS f2_30 dX2_react_114 ?_
  refine z_iconst hx hb dX2_react_117 ?_
  refine z_add hx hb hw dX2_react_118 (fun h7 hw => ?_)
  refine z_pi X hS hM6 f2_30 p2_30 h7 hw dX2_react_119 (fun V8 hM9 hw H locs hS => ?_)
  exact z_rv X hS hM9 ⟨rfl, hw⟩ dX2_react_122
theorem m2_react_J57 {a1 : Int} {a2 : Int} {a3 : Int} {b1 : Int} {b2 : Int} {V : Mv} {Q : Int → Mv → Prop} {PX : Px} (X : Cx E 1 h0 P0 kc0 ks0 S0 A p l R s m args meth c cX2_react 4 none 1) (hM : inM V) (hS : HS E 1 h0 P0 kc0 ks0 (sbs []) A s.heap P (toC V) ZM H locs cells slots) (hl : lv_has ls 4 [(0, .ref h0), (1, .int (I3 a1)), (2, .int (I3 a2)), (3, .int (I3 a3))]) (r1 : inR a1) (r2 : inR a2) (r3 : inR a3) (sr1 : inR b1) (sr2 : inR b2) (hw : w2_react_J57 a1 a2 a3 b1 b2 V Q) : W p l e R s m args below meth c H locs cells slots (MQx below (QT E 1 h0 false P0 kc0 ks0 (sbs []) A (QL (fun x V1 Z1 => Z1 = ZM ∧ Q x V1)) (PL PX) s) s) (F0 m 57 ls [.int (I3 b2), .int (I3 b1), .ref (P 23)]) := by
  have hx := X.2.1
  have hb := X.2.2.1
  unfold w2_react_J57 at hw
  refine z_is X hS hM a2_23 sr2 hw dX2_react_57 (fun V10 hM11 hw H locs hS => ?_)
  refine lv_aload_n hx hb dX2_react_58 rfl (lv_at hl 0 rfl) ?_
  refine r_ga X hS f2_24 dX2_react_59 ?_
  refine lv_aload_n hx hb dX2_react_62 rfl (lv_at hl 0 rfl) ?_
  refine z_gi X hS f2_30 dX2_react_63 ?_
  refine lv_iload_n hx hb dX2_react_66 rfl (lv_at hl 2 rfl) ?_
  refine z_iconst hx hb dX2_react_67 ?_
  refine z_ine (tgt := 80) hx hb r2 (⟨by decide, by decide⟩) hw dX2_react_68 (by decide) (fun hc hw => ?_) (fun hc hw => ?_)
  · refine lv_aload_n hx hb dX2_react_80 rfl (lv_at hl 0 rfl) ?_
    refine r_ga X hS f2_19 dX2_react_81 ?_
    refine lv_iload_n hx hb dX2_react_84 rfl (lv_at hl 1 rfl) ?_
    refine z_il X hS a2_19 hw dX2_react_85 (fun hw => ?_)
    exact m2_react_J86 X hM11 hS (lv_sub hl [0, 1, 3] rfl) r1 r3 (hM11 30 0) (hM11 19 a1) hw
  · refine lv_aload_n hx hb dX2_react_71 rfl (lv_at hl 0 rfl) ?_
    refine r_ga X hS f2_21 dX2_react_72 ?_
    refine lv_iload_n hx hb dX2_react_75 rfl (lv_at hl 1 rfl) ?_
    refine z_il X hS a2_21 hw dX2_react_76 (fun hw => ?_)
    refine lv_goto (tgt := 86) hx hb dX2_react_77 (by decide) ?_
    exact m2_react_J86 X hM11 hS (lv_sub hl [0, 1, 3] rfl) r1 r3 (hM11 30 0) (hM11 21 a1) hw
theorem m2_react_J28 {a1 : Int} {a2 : Int} {a3 : Int} {b1 : Int} {b2 : Int} {V : Mv} {Q : Int → Mv → Prop} {PX : Px} (X : Cx E 1 h0 P0 kc0 ks0 S0 A p l R s m args meth c cX2_react 4 none 1) (hM : inM V) (hS : HS E 1 h0 P0 kc0 ks0 (sbs []) A s.heap P (toC V) ZM H locs cells slots) (hl : lv_has ls 4 [(0, .ref h0), (1, .int (I3 a1)), (2, .int (I3 a2)), (3, .int (I3 a3))]) (r1 : inR a1) (r2 : inR a2) (r3 : inR a3) (sr1 : inR b1) (sr2 : inR b2) (hw : w2_react_J28 a1 a2 a3 b1 b2 V Q) : W p l e R s m args below meth c H locs cells slots (MQx below (QT E 1 h0 false P0 kc0 ks0 (sbs []) A (QL (fun x V1 Z1 => Z1 = ZM ∧ Q x V1)) (PL PX) s) s) (F0 m 28 ls [.int (I3 b2), .int (I3 b1), .ref (P 27)]) := by
  have hx := X.2.1
  have hb := X.2.2.1
  unfold w2_react_J28 at hw
  refine z_zs X hS hM a2_27 sr2 hw dX2_react_28 (fun V12 hM13 hw H locs hS => ?_)
  refine lv_aload_n hx hb dX2_react_29 rfl (lv_at hl 0 rfl) ?_
  refine r_ga X hS f2_23 dX2_react_30 ?_
  refine lv_aload_n hx hb dX2_react_33 rfl (lv_at hl 0 rfl) ?_
  refine z_gi X hS f2_30 dX2_react_34 ?_
  refine lv_iload_n hx hb dX2_react_37 rfl (lv_at hl 2 rfl) ?_
  refine z_iconst hx hb dX2_react_38 ?_
  refine z_ine (tgt := 51) hx hb r2 (⟨by decide, by decide⟩) hw dX2_react_39 (by decide) (fun hc hw => ?_) (fun hc hw => ?_)
  · refine lv_aload_n hx hb dX2_react_51 rfl (lv_at hl 0 rfl) ?_
    refine r_ga X hS f2_18 dX2_react_52 ?_
    refine lv_iload_n hx hb dX2_react_55 rfl (lv_at hl 1 rfl) ?_
    refine z_il X hS a2_18 hw dX2_react_56 (fun hw => ?_)
    exact m2_react_J57 X hM13 hS (lv_sub hl [0, 1, 2, 3] rfl) r1 r2 r3 (hM13 30 0) (hM13 18 a1) hw
  · refine lv_aload_n hx hb dX2_react_42 rfl (lv_at hl 0 rfl) ?_
    refine r_ga X hS f2_20 dX2_react_43 ?_
    refine lv_iload_n hx hb dX2_react_46 rfl (lv_at hl 1 rfl) ?_
    refine z_il X hS a2_20 hw dX2_react_47 (fun hw => ?_)
    refine lv_goto (tgt := 57) hx hb dX2_react_48 (by decide) ?_
    exact m2_react_J57 X hM13 hS (lv_sub hl [0, 1, 2, 3] rfl) r1 r2 r3 (hM13 30 0) (hM13 20 a1) hw
theorem m2_react {a1 : Int} {a2 : Int} {a3 : Int} {V : Mv} {Q : Int → Mv → Prop} {PX : Px} (r1 : inR a1) (r2 : inR a2) (r3 : inR a3) (hM : inM V) (hw : w2_react a1 a2 a3 V Q) : MT l S0 E 1 h0 yX2_react cX2_react 4 none 1 false (sbs []) [.int (I3 a1), .int (I3 a2), .int (I3 a3)] (toC V) ZM (QL (fun x V1 Z1 => Z1 = ZM ∧ Q x V1)) (PL PX) := by
  refine mt_of Gk1 (by decide) rfl (Nat.le_of_ble_eq_true rfl) ?_
  intro p e s m below meth c A P ls X hS hl
  have hl : lv_has ls 4 [(0, .ref h0), (1, .int (I3 a1)), (2, .int (I3 a2)), (3, .int (I3 a3))] := hl
  have hx := X.2.1
  have hb := X.2.2.1
  unfold w2_react at hw
  refine lv_aload_n hx hb dX2_react_0 rfl (lv_at hl 0 rfl) ?_
  refine r_ga X hS f2_28 dX2_react_1 ?_
  refine lv_aload_n hx hb dX2_react_4 rfl (lv_at hl 0 rfl) ?_
  refine z_gi X hS f2_30 dX2_react_5 ?_
  refine z_iconst hx hb dX2_react_8 ?_
  refine z_zs X hS hM a2_28 (⟨by decide, by decide⟩) hw dX2_react_9 (fun V14 hM15 hw H locs hS => ?_)
  refine lv_aload_n hx hb dX2_react_10 rfl (lv_at hl 0 rfl) ?_
  refine r_ga X hS f2_27 dX2_react_11 ?_
  refine lv_aload_n hx hb dX2_react_14 rfl (lv_at hl 0 rfl) ?_
  refine z_gi X hS f2_30 dX2_react_15 ?_
  refine lv_iload_n hx hb dX2_react_18 rfl (lv_at hl 2 rfl) ?_
  refine z_iconst hx hb dX2_react_19 ?_
  refine z_ine (tgt := 27) hx hb r2 (⟨by decide, by decide⟩) hw dX2_react_20 (by decide) (fun hc hw => ?_) (fun hc hw => ?_)
  · refine z_iconst hx hb dX2_react_27 ?_
    exact m2_react_J28 X hM15 hS (lv_sub hl [0, 1, 2, 3] rfl) r1 r2 r3 (hM15 30 0) (⟨by decide, by decide⟩) hw
  · refine z_iconst hx hb dX2_react_23 ?_
    refine lv_goto (tgt := 28) hx hb dX2_react_24 (by decide) ?_
    exact m2_react_J28 X hM15 hS (lv_sub hl [0, 1, 2, 3] rfl) r1 r2 r3 (hM15 30 0) (⟨by decide, by decide⟩) hw
theorem m2_settle_2_L22 {Q : Int → Mv → Prop} {PX : Px} (X : Cx E 1 h0 P0 kc0 ks0 S0 A p l R s m args meth c cX2_settle_2 5 none 2) : ∀ n, ∀ {a1 : Int} {a2 : Int} {a3 : Int} {a4 : Int} {V : Mv} {P : Le} {H : Heap} {locs : List Loc} {cells slots : Nat} {ls : Array Slot}, inM V → HS E 1 h0 P0 kc0 ks0 (sbs []) A s.heap P (toC V) ZM H locs cells slots → lv_has ls 5 [(0, .ref h0), (1, .int (I3 a1)), (2, .int (I3 a2)), (3, .int (I3 a3)), (4, .int (I3 a4))] → inR a1 → inR a2 → inR a3 → inR a4 → w2_settle_2_L22 Q n a1 a2 a3 a4 V → W p l e R s m args below meth c H locs cells slots (MQx below (QT E 1 h0 false P0 kc0 ks0 (sbs []) A (QL (fun x V1 Z1 => Z1 = ZM ∧ Q x V1)) (PL PX) s) s) (F0 m 22 ls []) := by
  have hx := X.2.1
  have hb := X.2.2.1
  intro n
  induction n with
  | zero => intros; rename_i hw; exact hw.elim
  | succ n ih =>
    intro a1 a2 a3 a4 V P H locs cells slots ls hM hS hl r1 r2 r3 r4 hw
    unfold w2_settle_2_L22 at hw
    refine lv_iload hx hb dX2_settle_2_22 (lv_at hl 4 rfl) ?_
    refine z_zlt (tgt := 47) hx hb r4 hw dX2_settle_2_24 (by decide) (fun hc hw => ?_) (fun hc hw => ?_)
    · refine lv_aload_n hx hb dX2_settle_2_47 rfl (lv_at hl 0 rfl) ?_
      refine r_ga X hS f2_5 dX2_settle_2_48 ?_
      refine lv_iload_n hx hb dX2_settle_2_51 rfl (lv_at hl 1 rfl) ?_
      refine z_iconst hx hb dX2_settle_2_52 ?_
      refine z_is X hS hM a2_5 (⟨by decide, by decide⟩) hw dX2_settle_2_53 (fun V1 hM2 hw H locs hS => ?_)
      exact z_rv X hS hM2 ⟨rfl, hw⟩ dX2_settle_2_54
    · refine lv_aload_n hx hb dX2_settle_2_27 rfl (lv_at hl 0 rfl) ?_
      refine lv_iload hx hb dX2_settle_2_28 (lv_at hl 4 rfl) ?_
      refine lv_iload_n hx hb dX2_settle_2_30 rfl (lv_at hl 2 rfl) ?_
      refine lv_iload_n hx hb dX2_settle_2_31 rfl (lv_at hl 3 rfl) ?_
      refine z_callV X hS (m2_react r4 r2 r3 hM hw) gv2_165 hy2_react rfl (by omega) (by decide) (sbs_sub rfl) hl.1 (Nat.le_of_ble_eq_true rfl) dX2_settle_2_32 rfl (fun x3 V5 Z8 h4 hM6 hw P7 H locs c1 s1 hP hS => ?_)
      obtain ⟨rfl, hw⟩ := hw
      refine lv_aload_n hx hb dX2_settle_2_35 rfl (lv_at hl 0 rfl) ?_
      refine r_ga X hS f2_16 dX2_settle_2_36 ?_
      refine lv_iload hx hb dX2_settle_2_39 (lv_at hl 4 rfl) ?_
      refine z_il X hS a2_16 hw dX2_settle_2_41 (fun hw => ?_)
      refine lv_istore (lv' := [(4, .int (I3 (V5 16 a4))), (0, .ref h0), (1, .int (I3 a1)), (2, .int (I3 a2)), (3, .int (I3 a3))]) hx hb dX2_settle_2_42 hl (by decide) rfl (fun ls hl => ?_)
      refine lv_goto (tgt := 22) hx hb dX2_settle_2_44 (by decide) ?_
      exact ih hM6 hS (lv_sub hl [1, 2, 3, 4, 0] rfl) r1 r2 r3 (hM6 16 a4) hw
theorem m2_settle_2 {a1 : Int} {a2 : Int} {a3 : Int} {V : Mv} {Q : Int → Mv → Prop} {PX : Px} (r1 : inR a1) (r2 : inR a2) (r3 : inR a3) (hM : inM V) (hw : w2_settle_2 a1 a2 a3 V Q) : MT l S0 E 1 h0 yX2_settle_2 cX2_settle_2 5 none 2 false (sbs []) [.int (I3 a1), .int (I3 a2), .int (I3 a3)] (toC V) ZM (QL (fun x V1 Z1 => Z1 = ZM ∧ Q x V1)) (PL PX) := by
  refine mt_of Gk1 (by decide) rfl (Nat.le_of_ble_eq_true rfl) ?_
  intro p e s m below meth c A P ls X hS hl
  have hl : lv_has ls 5 [(0, .ref h0), (1, .int (I3 a1)), (2, .int (I3 a2)), (3, .int (I3 a3))] := hl
  have hx := X.2.1
  have hb := X.2.2.1
  unfold w2_settle_2 at hw
  refine lv_aload_n hx hb dX2_settle_2_0 rfl (lv_at hl 0 rfl) ?_
  refine r_ga X hS f2_3 dX2_settle_2_1 ?_
  refine lv_iload_n hx hb dX2_settle_2_4 rfl (lv_at hl 1 rfl) ?_
  refine lv_iload_n hx hb dX2_settle_2_5 rfl (lv_at hl 2 rfl) ?_
  refine z_is X hS hM a2_3 r2 hw dX2_settle_2_6 (fun V9 hM10 hw H locs hS => ?_)
  refine lv_aload_n hx hb dX2_settle_2_7 rfl (lv_at hl 0 rfl) ?_
  refine r_ga X hS f2_4 dX2_settle_2_8 ?_
  refine lv_iload_n hx hb dX2_settle_2_11 rfl (lv_at hl 1 rfl) ?_
  refine lv_iload_n hx hb dX2_settle_2_12 rfl (lv_at hl 3 rfl) ?_
  refine z_is X hS hM10 a2_4 r3 hw dX2_settle_2_13 (fun V11 hM12 hw H locs hS => ?_)
  refine lv_aload_n hx hb dX2_settle_2_14 rfl (lv_at hl 0 rfl) ?_
  refine r_ga X hS f2_5 dX2_settle_2_15 ?_
  refine lv_iload_n hx hb dX2_settle_2_18 rfl (lv_at hl 1 rfl) ?_
  refine z_il X hS a2_5 hw dX2_settle_2_19 (fun hw => ?_)
  refine lv_istore (lv' := [(4, .int (I3 (V11 5 a1))), (0, .ref h0), (1, .int (I3 a1)), (2, .int (I3 a2)), (3, .int (I3 a3))]) hx hb dX2_settle_2_20 hl (by decide) rfl (fun ls hl => ?_)
  obtain ⟨n, hw⟩ := hw
  exact m2_settle_2_L22 X n hM12 hS (lv_sub hl [1, 2, 3, 4, 0] rfl) r1 r2 r3 (hM12 5 a1) hw
end WALK
