set_option maxRecDepth 100000
theorem dX1_object_0 : decode cX1_object 0 = .ok (.aload_n 0, 1) := by decide +kernel
theorem dX1_object_1 : decode cX1_object 1 = .ok (.getfield 9, 3) := by decide +kernel
theorem dX1_object_4 : decode cX1_object 4 = .ok (.aload_n 0, 1) := by decide +kernel
theorem dX1_object_5 : decode cX1_object 5 = .ok (.getfield 138, 3) := by decide +kernel
theorem dX1_object_8 : decode cX1_object 8 = .ok (.iload_n 1, 1) := by decide +kernel
theorem dX1_object_9 : decode cX1_object 9 = .ok (.iastore, 1) := by decide +kernel
theorem dX1_object_10 : decode cX1_object 10 = .ok (.aload_n 0, 1) := by decide +kernel
theorem dX1_object_11 : decode cX1_object 11 = .ok (.getfield 19, 3) := by decide +kernel
theorem dX1_object_14 : decode cX1_object 14 = .ok (.aload_n 0, 1) := by decide +kernel
theorem dX1_object_15 : decode cX1_object 15 = .ok (.getfield 138, 3) := by decide +kernel
theorem dX1_object_18 : decode cX1_object 18 = .ok (.iconst 0, 1) := by decide +kernel
theorem dX1_object_19 : decode cX1_object 19 = .ok (.iastore, 1) := by decide +kernel
theorem dX1_object_20 : decode cX1_object 20 = .ok (.aload_n 0, 1) := by decide +kernel
theorem dX1_object_21 : decode cX1_object 21 = .ok (.getfield 25, 3) := by decide +kernel
theorem dX1_object_24 : decode cX1_object 24 = .ok (.aload_n 0, 1) := by decide +kernel
theorem dX1_object_25 : decode cX1_object 25 = .ok (.getfield 138, 3) := by decide +kernel
theorem dX1_object_28 : decode cX1_object 28 = .ok (.iconst (-1), 1) := by decide +kernel
theorem dX1_object_29 : decode cX1_object 29 = .ok (.iastore, 1) := by decide +kernel
theorem dX1_object_30 : decode cX1_object 30 = .ok (.aload_n 0, 1) := by decide +kernel
theorem dX1_object_31 : decode cX1_object 31 = .ok (.dup, 1) := by decide +kernel
theorem dX1_object_32 : decode cX1_object 32 = .ok (.getfield 138, 3) := by decide +kernel
theorem dX1_object_35 : decode cX1_object 35 = .ok (.iconst 1, 1) := by decide +kernel
theorem dX1_object_36 : decode cX1_object 36 = .ok (.iadd, 1) := by decide +kernel
theorem dX1_object_37 : decode cX1_object 37 = .ok (.putfield 138, 3) := by decide +kernel
theorem dX1_object_40 : decode cX1_object 40 = .ok (.aload_n 0, 1) := by decide +kernel
theorem dX1_object_41 : decode cX1_object 41 = .ok (.getfield 138, 3) := by decide +kernel
theorem dX1_object_44 : decode cX1_object 44 = .ok (.iconst 1, 1) := by decide +kernel
theorem dX1_object_45 : decode cX1_object 45 = .ok (.isub, 1) := by decide +kernel
theorem dX1_object_46 : decode cX1_object 46 = .ok (.ireturn, 1) := by decide +kernel
theorem dX1_function_0 : decode cX1_function 0 = .ok (.aload_n 0, 1) := by decide +kernel
theorem dX1_function_1 : decode cX1_function 1 = .ok (.getfield 141, 3) := by decide +kernel
theorem dX1_function_4 : decode cX1_function 4 = .ok (.aload_n 0, 1) := by decide +kernel
theorem dX1_function_5 : decode cX1_function 5 = .ok (.getfield 53, 3) := by decide +kernel
theorem dX1_function_8 : decode cX1_function 8 = .ok (.arraylength, 1) := by decide +kernel
theorem dX1_function_9 : decode cX1_function 9 = .ok (.if_icmp .ne 63, 3) := by decide +kernel
theorem dX1_function_12 : decode cX1_function 12 = .ok (.iconst 2, 1) := by decide +kernel
theorem dX1_function_13 : decode cX1_function 13 = .ok (.aload_n 0, 1) := by decide +kernel
theorem dX1_function_14 : decode cX1_function 14 = .ok (.getfield 141, 3) := by decide +kernel
theorem dX1_function_17 : decode cX1_function 17 = .ok (.imul, 1) := by decide +kernel
theorem dX1_function_18 : decode cX1_function 18 = .ok (.istore 5, 2) := by decide +kernel
theorem dX1_function_20 : decode cX1_function 20 = .ok (.aload_n 0, 1) := by decide +kernel
theorem dX1_function_21 : decode cX1_function 21 = .ok (.aload_n 0, 1) := by decide +kernel
theorem dX1_function_22 : decode cX1_function 22 = .ok (.getfield 53, 3) := by decide +kernel
theorem dX1_function_25 : decode cX1_function 25 = .ok (.iload 5, 2) := by decide +kernel
theorem dX1_function_27 : decode cX1_function 27 = .ok (.invokestatic 144, 3) := by decide +kernel
theorem dX1_function_30 : decode cX1_function 30 = .ok (.putfield 53, 3) := by decide +kernel
theorem dX1_function_33 : decode cX1_function 33 = .ok (.aload_n 0, 1) := by decide +kernel
theorem dX1_function_34 : decode cX1_function 34 = .ok (.aload_n 0, 1) := by decide +kernel
theorem dX1_function_35 : decode cX1_function 35 = .ok (.getfield 56, 3) := by decide +kernel
theorem dX1_function_38 : decode cX1_function 38 = .ok (.iload 5, 2) := by decide +kernel
theorem dX1_function_40 : decode cX1_function 40 = .ok (.invokestatic 144, 3) := by decide +kernel
theorem dX1_function_43 : decode cX1_function 43 = .ok (.putfield 56, 3) := by decide +kernel
theorem dX1_function_46 : decode cX1_function 46 = .ok (.aload_n 0, 1) := by decide +kernel
theorem dX1_function_47 : decode cX1_function 47 = .ok (.aload_n 0, 1) := by decide +kernel
theorem dX1_function_48 : decode cX1_function 48 = .ok (.getfield 59, 3) := by decide +kernel
theorem dX1_function_51 : decode cX1_function 51 = .ok (.iload 5, 2) := by decide +kernel
theorem dX1_function_53 : decode cX1_function 53 = .ok (.invokestatic 144, 3) := by decide +kernel
theorem dX1_function_56 : decode cX1_function 56 = .ok (.putfield 59, 3) := by decide +kernel
theorem dX1_function_59 : decode cX1_function 59 = .ok (.aload_n 0, 1) := by decide +kernel
theorem dX1_function_60 : decode cX1_function 60 = .ok (.aload_n 0, 1) := by decide +kernel
theorem dX1_function_61 : decode cX1_function 61 = .ok (.getfield 62, 3) := by decide +kernel
theorem dX1_function_64 : decode cX1_function 64 = .ok (.iload 5, 2) := by decide +kernel
theorem dX1_function_66 : decode cX1_function 66 = .ok (.invokestatic 144, 3) := by decide +kernel
theorem dX1_function_69 : decode cX1_function 69 = .ok (.putfield 62, 3) := by decide +kernel
theorem dX1_function_72 : decode cX1_function 72 = .ok (.aload_n 0, 1) := by decide +kernel
theorem dX1_function_73 : decode cX1_function 73 = .ok (.getfield 53, 3) := by decide +kernel
theorem dX1_function_76 : decode cX1_function 76 = .ok (.aload_n 0, 1) := by decide +kernel
theorem dX1_function_77 : decode cX1_function 77 = .ok (.getfield 141, 3) := by decide +kernel
theorem dX1_function_80 : decode cX1_function 80 = .ok (.iload_n 1, 1) := by decide +kernel
theorem dX1_function_81 : decode cX1_function 81 = .ok (.iastore, 1) := by decide +kernel
theorem dX1_function_82 : decode cX1_function 82 = .ok (.aload_n 0, 1) := by decide +kernel
theorem dX1_function_83 : decode cX1_function 83 = .ok (.getfield 56, 3) := by decide +kernel
theorem dX1_function_86 : decode cX1_function 86 = .ok (.aload_n 0, 1) := by decide +kernel
theorem dX1_function_87 : decode cX1_function 87 = .ok (.getfield 141, 3) := by decide +kernel
theorem dX1_function_90 : decode cX1_function 90 = .ok (.iload_n 2, 1) := by decide +kernel
theorem dX1_function_91 : decode cX1_function 91 = .ok (.iastore, 1) := by decide +kernel
theorem dX1_function_92 : decode cX1_function 92 = .ok (.aload_n 0, 1) := by decide +kernel
theorem dX1_function_93 : decode cX1_function 93 = .ok (.getfield 59, 3) := by decide +kernel
theorem dX1_function_96 : decode cX1_function 96 = .ok (.aload_n 0, 1) := by decide +kernel
theorem dX1_function_97 : decode cX1_function 97 = .ok (.getfield 141, 3) := by decide +kernel
theorem dX1_function_100 : decode cX1_function 100 = .ok (.iload_n 3, 1) := by decide +kernel
theorem dX1_function_101 : decode cX1_function 101 = .ok (.iastore, 1) := by decide +kernel
theorem dX1_function_102 : decode cX1_function 102 = .ok (.aload_n 0, 1) := by decide +kernel
theorem dX1_function_103 : decode cX1_function 103 = .ok (.getfield 62, 3) := by decide +kernel
theorem dX1_function_106 : decode cX1_function 106 = .ok (.aload_n 0, 1) := by decide +kernel
theorem dX1_function_107 : decode cX1_function 107 = .ok (.getfield 141, 3) := by decide +kernel
theorem dX1_function_110 : decode cX1_function 110 = .ok (.iload 4, 2) := by decide +kernel
theorem dX1_function_112 : decode cX1_function 112 = .ok (.iastore, 1) := by decide +kernel
theorem dX1_function_113 : decode cX1_function 113 = .ok (.aload_n 0, 1) := by decide +kernel
theorem dX1_function_114 : decode cX1_function 114 = .ok (.dup, 1) := by decide +kernel
theorem dX1_function_115 : decode cX1_function 115 = .ok (.getfield 141, 3) := by decide +kernel
theorem dX1_function_118 : decode cX1_function 118 = .ok (.iconst 1, 1) := by decide +kernel
theorem dX1_function_119 : decode cX1_function 119 = .ok (.iadd, 1) := by decide +kernel
theorem dX1_function_120 : decode cX1_function 120 = .ok (.putfield 141, 3) := by decide +kernel
theorem dX1_function_123 : decode cX1_function 123 = .ok (.aload_n 0, 1) := by decide +kernel
theorem dX1_function_124 : decode cX1_function 124 = .ok (.getfield 141, 3) := by decide +kernel
theorem dX1_function_127 : decode cX1_function 127 = .ok (.iconst 1, 1) := by decide +kernel
theorem dX1_function_128 : decode cX1_function 128 = .ok (.isub, 1) := by decide +kernel
theorem dX1_function_129 : decode cX1_function 129 = .ok (.ireturn, 1) := by decide +kernel
theorem dX1_newCell_0 : decode cX1_newCell 0 = .ok (.aload_n 0, 1) := by decide +kernel
theorem dX1_newCell_1 : decode cX1_newCell 1 = .ok (.getfield 150, 3) := by decide +kernel
theorem dX1_newCell_4 : decode cX1_newCell 4 = .ok (.aload_n 0, 1) := by decide +kernel
theorem dX1_newCell_5 : decode cX1_newCell 5 = .ok (.getfield 65, 3) := by decide +kernel
theorem dX1_newCell_8 : decode cX1_newCell 8 = .ok (.arraylength, 1) := by decide +kernel
theorem dX1_newCell_9 : decode cX1_newCell 9 = .ok (.if_icmp .ne 20, 3) := by decide +kernel
theorem dX1_newCell_12 : decode cX1_newCell 12 = .ok (.aload_n 0, 1) := by decide +kernel
theorem dX1_newCell_13 : decode cX1_newCell 13 = .ok (.aload_n 0, 1) := by decide +kernel
theorem dX1_newCell_14 : decode cX1_newCell 14 = .ok (.getfield 65, 3) := by decide +kernel
theorem dX1_newCell_17 : decode cX1_newCell 17 = .ok (.iconst 2, 1) := by decide +kernel
theorem dX1_newCell_18 : decode cX1_newCell 18 = .ok (.aload_n 0, 1) := by decide +kernel
theorem dX1_newCell_19 : decode cX1_newCell 19 = .ok (.getfield 150, 3) := by decide +kernel
theorem dX1_newCell_22 : decode cX1_newCell 22 = .ok (.imul, 1) := by decide +kernel
theorem dX1_newCell_23 : decode cX1_newCell 23 = .ok (.invokestatic 144, 3) := by decide +kernel
theorem dX1_newCell_26 : decode cX1_newCell 26 = .ok (.putfield 65, 3) := by decide +kernel
theorem dX1_newCell_29 : decode cX1_newCell 29 = .ok (.aload_n 0, 1) := by decide +kernel
theorem dX1_newCell_30 : decode cX1_newCell 30 = .ok (.getfield 65, 3) := by decide +kernel
theorem dX1_newCell_33 : decode cX1_newCell 33 = .ok (.aload_n 0, 1) := by decide +kernel
theorem dX1_newCell_34 : decode cX1_newCell 34 = .ok (.getfield 150, 3) := by decide +kernel
theorem dX1_newCell_37 : decode cX1_newCell 37 = .ok (.iload_n 1, 1) := by decide +kernel
theorem dX1_newCell_38 : decode cX1_newCell 38 = .ok (.iastore, 1) := by decide +kernel
theorem dX1_newCell_39 : decode cX1_newCell 39 = .ok (.aload_n 0, 1) := by decide +kernel
theorem dX1_newCell_40 : decode cX1_newCell 40 = .ok (.dup, 1) := by decide +kernel
theorem dX1_newCell_41 : decode cX1_newCell 41 = .ok (.getfield 150, 3) := by decide +kernel
theorem dX1_newCell_44 : decode cX1_newCell 44 = .ok (.iconst 1, 1) := by decide +kernel
theorem dX1_newCell_45 : decode cX1_newCell 45 = .ok (.iadd, 1) := by decide +kernel
theorem dX1_newCell_46 : decode cX1_newCell 46 = .ok (.putfield 150, 3) := by decide +kernel
theorem dX1_newCell_49 : decode cX1_newCell 49 = .ok (.aload_n 0, 1) := by decide +kernel
theorem dX1_newCell_50 : decode cX1_newCell 50 = .ok (.getfield 150, 3) := by decide +kernel
theorem dX1_newCell_53 : decode cX1_newCell 53 = .ok (.iconst 1, 1) := by decide +kernel
theorem dX1_newCell_54 : decode cX1_newCell 54 = .ok (.isub, 1) := by decide +kernel
theorem dX1_newCell_55 : decode cX1_newCell 55 = .ok (.ireturn, 1) := by decide +kernel
theorem dX1_row_0 : decode cX1_row 0 = .ok (.aload_n 0, 1) := by decide +kernel
theorem dX1_row_1 : decode cX1_row 1 = .ok (.getfield 153, 3) := by decide +kernel
theorem dX1_row_4 : decode cX1_row 4 = .ok (.iload_n 1, 1) := by decide +kernel
theorem dX1_row_5 : decode cX1_row 5 = .ok (.iadd, 1) := by decide +kernel
theorem dX1_row_6 : decode cX1_row 6 = .ok (.aload_n 0, 1) := by decide +kernel
theorem dX1_row_7 : decode cX1_row 7 = .ok (.getfield 105, 3) := by decide +kernel
theorem dX1_row_10 : decode cX1_row 10 = .ok (.arraylength, 1) := by decide +kernel
theorem dX1_row_11 : decode cX1_row 11 = .ok (.if_icmp .le 24, 3) := by decide +kernel
theorem dX1_row_14 : decode cX1_row 14 = .ok (.aload_n 0, 1) := by decide +kernel
theorem dX1_row_15 : decode cX1_row 15 = .ok (.aload_n 0, 1) := by decide +kernel
theorem dX1_row_16 : decode cX1_row 16 = .ok (.getfield 105, 3) := by decide +kernel
theorem dX1_row_19 : decode cX1_row 19 = .ok (.iconst 2, 1) := by decide +kernel
theorem dX1_row_20 : decode cX1_row 20 = .ok (.aload_n 0, 1) := by decide +kernel
theorem dX1_row_21 : decode cX1_row 21 = .ok (.getfield 105, 3) := by decide +kernel
theorem dX1_row_24 : decode cX1_row 24 = .ok (.arraylength, 1) := by decide +kernel
theorem dX1_row_25 : decode cX1_row 25 = .ok (.imul, 1) := by decide +kernel
theorem dX1_row_26 : decode cX1_row 26 = .ok (.invokestatic 144, 3) := by decide +kernel
theorem dX1_row_29 : decode cX1_row 29 = .ok (.putfield 105, 3) := by decide +kernel
theorem dX1_row_32 : decode cX1_row 32 = .ok (.goto (-32), 3) := by decide +kernel
theorem dX1_row_35 : decode cX1_row 35 = .ok (.iconst 0, 1) := by decide +kernel
theorem dX1_row_36 : decode cX1_row 36 = .ok (.istore_n 2, 1) := by decide +kernel
theorem dX1_row_37 : decode cX1_row 37 = .ok (.iload_n 2, 1) := by decide +kernel
theorem dX1_row_38 : decode cX1_row 38 = .ok (.iload_n 1, 1) := by decide +kernel
theorem dX1_row_39 : decode cX1_row 39 = .ok (.if_icmp .ge 21, 3) := by decide +kernel
theorem dX1_row_42 : decode cX1_row 42 = .ok (.aload_n 0, 1) := by decide +kernel
theorem dX1_row_43 : decode cX1_row 43 = .ok (.getfield 105, 3) := by decide +kernel
theorem dX1_row_46 : decode cX1_row 46 = .ok (.aload_n 0, 1) := by decide +kernel
theorem dX1_row_47 : decode cX1_row 47 = .ok (.getfield 153, 3) := by decide +kernel
theorem dX1_row_50 : decode cX1_row 50 = .ok (.iload_n 2, 1) := by decide +kernel
theorem dX1_row_51 : decode cX1_row 51 = .ok (.iadd, 1) := by decide +kernel
theorem dX1_row_52 : decode cX1_row 52 = .ok (.iconst (-1), 1) := by decide +kernel
theorem dX1_row_53 : decode cX1_row 53 = .ok (.iastore, 1) := by decide +kernel
theorem dX1_row_54 : decode cX1_row 54 = .ok (.iinc 2 1, 3) := by decide +kernel
theorem dX1_row_57 : decode cX1_row 57 = .ok (.goto (-20), 3) := by decide +kernel
theorem dX1_row_60 : decode cX1_row 60 = .ok (.aload_n 0, 1) := by decide +kernel
theorem dX1_row_61 : decode cX1_row 61 = .ok (.dup, 1) := by decide +kernel
theorem dX1_row_62 : decode cX1_row 62 = .ok (.getfield 153, 3) := by decide +kernel
theorem dX1_row_65 : decode cX1_row 65 = .ok (.iload_n 1, 1) := by decide +kernel
theorem dX1_row_66 : decode cX1_row 66 = .ok (.iadd, 1) := by decide +kernel
theorem dX1_row_67 : decode cX1_row 67 = .ok (.putfield 153, 3) := by decide +kernel
theorem dX1_row_70 : decode cX1_row 70 = .ok (.aload_n 0, 1) := by decide +kernel
theorem dX1_row_71 : decode cX1_row 71 = .ok (.getfield 153, 3) := by decide +kernel
theorem dX1_row_74 : decode cX1_row 74 = .ok (.iload_n 1, 1) := by decide +kernel
theorem dX1_row_75 : decode cX1_row 75 = .ok (.isub, 1) := by decide +kernel
theorem dX1_row_76 : decode cX1_row 76 = .ok (.ireturn, 1) := by decide +kernel
theorem dX1_holder_0 : decode cX1_holder 0 = .ok (.aload_n 0, 1) := by decide +kernel
theorem dX1_holder_1 : decode cX1_holder 1 = .ok (.iload_n 1, 1) := by decide +kernel
theorem dX1_holder_2 : decode cX1_holder 2 = .ok (.invokevirtual 156, 3) := by decide +kernel
theorem dX1_holder_5 : decode cX1_holder 5 = .ok (.istore 4, 2) := by decide +kernel
theorem dX1_holder_7 : decode cX1_holder 7 = .ok (.aload_n 0, 1) := by decide +kernel
theorem dX1_holder_8 : decode cX1_holder 8 = .ok (.getfield 13, 3) := by decide +kernel
theorem dX1_holder_11 : decode cX1_holder 11 = .ok (.iload 4, 2) := by decide +kernel
theorem dX1_holder_13 : decode cX1_holder 13 = .ok (.iload_n 2, 1) := by decide +kernel
theorem dX1_holder_14 : decode cX1_holder 14 = .ok (.iastore, 1) := by decide +kernel
theorem dX1_holder_15 : decode cX1_holder 15 = .ok (.aload_n 0, 1) := by decide +kernel
theorem dX1_holder_16 : decode cX1_holder 16 = .ok (.getfield 16, 3) := by decide +kernel
theorem dX1_holder_19 : decode cX1_holder 19 = .ok (.iload 4, 2) := by decide +kernel
theorem dX1_holder_21 : decode cX1_holder 21 = .ok (.iload_n 3, 1) := by decide +kernel
theorem dX1_holder_22 : decode cX1_holder 22 = .ok (.iastore, 1) := by decide +kernel
theorem dX1_holder_23 : decode cX1_holder 23 = .ok (.iload 4, 2) := by decide +kernel
theorem dX1_holder_25 : decode cX1_holder 25 = .ok (.invokestatic 160, 3) := by decide +kernel
theorem dX1_holder_28 : decode cX1_holder 28 = .ok (.ireturn, 1) := by decide +kernel
theorem dX1_error_0 : decode cX1_error 0 = .ok (.aload_n 0, 1) := by decide +kernel
theorem dX1_error_1 : decode cX1_error 1 = .ok (.iconst 2, 1) := by decide +kernel
theorem dX1_error_2 : decode cX1_error 2 = .ok (.invokevirtual 156, 3) := by decide +kernel
theorem dX1_error_5 : decode cX1_error 5 = .ok (.invokestatic 160, 3) := by decide +kernel
theorem dX1_error_8 : decode cX1_error 8 = .ok (.ireturn, 1) := by decide +kernel
theorem dX1_raise_0 : decode cX1_raise 0 = .ok (.aload_n 0, 1) := by decide +kernel
theorem dX1_raise_1 : decode cX1_raise 1 = .ok (.iconst 1, 1) := by decide +kernel
theorem dX1_raise_2 : decode cX1_raise 2 = .ok (.putfield 163, 3) := by decide +kernel
theorem dX1_raise_5 : decode cX1_raise 5 = .ok (.iload_n 1, 1) := by decide +kernel
theorem dX1_raise_6 : decode cX1_raise 6 = .ok (.ireturn, 1) := by decide +kernel
theorem dX1_functionsOf_0 : decode cX1_functionsOf 0 = .ok (.aload_n 0, 1) := by decide +kernel
theorem dX1_functionsOf_1 : decode cX1_functionsOf 1 = .ok (.iconst 0, 1) := by decide +kernel
theorem dX1_functionsOf_2 : decode cX1_functionsOf 2 = .ok (.invokevirtual 167, 3) := by decide +kernel
theorem dX1_functionsOf_5 : decode cX1_functionsOf 5 = .ok (.istore_n 2, 1) := by decide +kernel
theorem dX1_functionsOf_6 : decode cX1_functionsOf 6 = .ok (.aload_n 0, 1) := by decide +kernel
theorem dX1_functionsOf_7 : decode cX1_functionsOf 7 = .ok (.iconst 1, 1) := by decide +kernel
theorem dX1_functionsOf_8 : decode cX1_functionsOf 8 = .ok (.iload_n 1, 1) := by decide +kernel
theorem dX1_functionsOf_9 : decode cX1_functionsOf 9 = .ok (.iload_n 2, 1) := by decide +kernel
theorem dX1_functionsOf_10 : decode cX1_functionsOf 10 = .ok (.iconst 0, 1) := by decide +kernel
theorem dX1_functionsOf_11 : decode cX1_functionsOf 11 = .ok (.invokevirtual 170, 3) := by decide +kernel
theorem dX1_functionsOf_14 : decode cX1_functionsOf 14 = .ok (.istore_n 3, 1) := by decide +kernel
theorem dX1_functionsOf_15 : decode cX1_functionsOf 15 = .ok (.aload_n 0, 1) := by decide +kernel
theorem dX1_functionsOf_16 : decode cX1_functionsOf 16 = .ok (.iconst 2, 1) := by decide +kernel
theorem dX1_functionsOf_17 : decode cX1_functionsOf 17 = .ok (.iload_n 1, 1) := by decide +kernel
theorem dX1_functionsOf_18 : decode cX1_functionsOf 18 = .ok (.iload_n 2, 1) := by decide +kernel
theorem dX1_functionsOf_19 : decode cX1_functionsOf 19 = .ok (.iconst 0, 1) := by decide +kernel
theorem dX1_functionsOf_20 : decode cX1_functionsOf 20 = .ok (.invokevirtual 170, 3) := by decide +kernel
theorem dX1_functionsOf_23 : decode cX1_functionsOf 23 = .ok (.pop, 1) := by decide +kernel
theorem dX1_functionsOf_24 : decode cX1_functionsOf 24 = .ok (.iload_n 3, 1) := by decide +kernel
theorem dX1_functionsOf_25 : decode cX1_functionsOf 25 = .ok (.ireturn, 1) := by decide +kernel
theorem dX1_newPromise_0 : decode cX1_newPromise 0 = .ok (.aload_n 0, 1) := by decide +kernel
theorem dX1_newPromise_1 : decode cX1_newPromise 1 = .ok (.iconst 0, 1) := by decide +kernel
theorem dX1_newPromise_2 : decode cX1_newPromise 2 = .ok (.invokevirtual 156, 3) := by decide +kernel
theorem dX1_newPromise_5 : decode cX1_newPromise 5 = .ok (.ireturn, 1) := by decide +kernel
theorem dX1_enqueue_0 : decode cX1_enqueue 0 = .ok (.aload_n 0, 1) := by decide +kernel
theorem dX1_enqueue_1 : decode cX1_enqueue 1 = .ok (.getfield 174, 3) := by decide +kernel
theorem dX1_enqueue_4 : decode cX1_enqueue 4 = .ok (.istore 4, 2) := by decide +kernel
theorem dX1_enqueue_6 : decode cX1_enqueue 6 = .ok (.iload 4, 2) := by decide +kernel
theorem dX1_enqueue_8 : decode cX1_enqueue 8 = .ok (.ifCond .eq 17, 3) := by decide +kernel
theorem dX1_enqueue_11 : decode cX1_enqueue 11 = .ok (.aload_n 0, 1) := by decide +kernel
theorem dX1_enqueue_12 : decode cX1_enqueue 12 = .ok (.aload_n 0, 1) := by decide +kernel
theorem dX1_enqueue_13 : decode cX1_enqueue 13 = .ok (.getfield 99, 3) := by decide +kernel
theorem dX1_enqueue_16 : decode cX1_enqueue 16 = .ok (.iload 4, 2) := by decide +kernel
theorem dX1_enqueue_18 : decode cX1_enqueue 18 = .ok (.iaload, 1) := by decide +kernel
theorem dX1_enqueue_19 : decode cX1_enqueue 19 = .ok (.putfield 174, 3) := by decide +kernel
theorem dX1_enqueue_22 : decode cX1_enqueue 22 = .ok (.goto 91, 3) := by decide +kernel
theorem dX1_enqueue_25 : decode cX1_enqueue 25 = .ok (.aload_n 0, 1) := by decide +kernel
theorem dX1_enqueue_26 : decode cX1_enqueue 26 = .ok (.getfield 102, 3) := by decide +kernel
theorem dX1_enqueue_29 : decode cX1_enqueue 29 = .ok (.aload_n 0, 1) := by decide +kernel
theorem dX1_enqueue_30 : decode cX1_enqueue 30 = .ok (.getfield 90, 3) := by decide +kernel
theorem dX1_enqueue_33 : decode cX1_enqueue 33 = .ok (.arraylength, 1) := by decide +kernel
theorem dX1_enqueue_34 : decode cX1_enqueue 34 = .ok (.if_icmp .ne 63, 3) := by decide +kernel
theorem dX1_enqueue_37 : decode cX1_enqueue 37 = .ok (.iconst 2, 1) := by decide +kernel
theorem dX1_enqueue_38 : decode cX1_enqueue 38 = .ok (.aload_n 0, 1) := by decide +kernel
theorem dX1_enqueue_39 : decode cX1_enqueue 39 = .ok (.getfield 102, 3) := by decide +kernel
theorem dX1_enqueue_42 : decode cX1_enqueue 42 = .ok (.imul, 1) := by decide +kernel
theorem dX1_enqueue_43 : decode cX1_enqueue 43 = .ok (.istore 5, 2) := by decide +kernel
theorem dX1_enqueue_45 : decode cX1_enqueue 45 = .ok (.aload_n 0, 1) := by decide +kernel
theorem dX1_enqueue_46 : decode cX1_enqueue 46 = .ok (.aload_n 0, 1) := by decide +kernel
theorem dX1_enqueue_47 : decode cX1_enqueue 47 = .ok (.getfield 90, 3) := by decide +kernel
theorem dX1_enqueue_50 : decode cX1_enqueue 50 = .ok (.iload 5, 2) := by decide +kernel
theorem dX1_enqueue_52 : decode cX1_enqueue 52 = .ok (.invokestatic 144, 3) := by decide +kernel
theorem dX1_enqueue_55 : decode cX1_enqueue 55 = .ok (.putfield 90, 3) := by decide +kernel
theorem dX1_enqueue_58 : decode cX1_enqueue 58 = .ok (.aload_n 0, 1) := by decide +kernel
theorem dX1_enqueue_59 : decode cX1_enqueue 59 = .ok (.aload_n 0, 1) := by decide +kernel
theorem dX1_enqueue_60 : decode cX1_enqueue 60 = .ok (.getfield 93, 3) := by decide +kernel
theorem dX1_enqueue_63 : decode cX1_enqueue 63 = .ok (.iload 5, 2) := by decide +kernel
theorem dX1_enqueue_65 : decode cX1_enqueue 65 = .ok (.invokestatic 144, 3) := by decide +kernel
theorem dX1_enqueue_68 : decode cX1_enqueue 68 = .ok (.putfield 93, 3) := by decide +kernel
theorem dX1_enqueue_71 : decode cX1_enqueue 71 = .ok (.aload_n 0, 1) := by decide +kernel
theorem dX1_enqueue_72 : decode cX1_enqueue 72 = .ok (.aload_n 0, 1) := by decide +kernel
theorem dX1_enqueue_73 : decode cX1_enqueue 73 = .ok (.getfield 96, 3) := by decide +kernel
theorem dX1_enqueue_76 : decode cX1_enqueue 76 = .ok (.iload 5, 2) := by decide +kernel
theorem dX1_enqueue_78 : decode cX1_enqueue 78 = .ok (.invokestatic 144, 3) := by decide +kernel
theorem dX1_enqueue_81 : decode cX1_enqueue 81 = .ok (.putfield 96, 3) := by decide +kernel
theorem dX1_enqueue_84 : decode cX1_enqueue 84 = .ok (.aload_n 0, 1) := by decide +kernel
theorem dX1_enqueue_85 : decode cX1_enqueue 85 = .ok (.aload_n 0, 1) := by decide +kernel
theorem dX1_enqueue_86 : decode cX1_enqueue 86 = .ok (.getfield 99, 3) := by decide +kernel
theorem dX1_enqueue_89 : decode cX1_enqueue 89 = .ok (.iload 5, 2) := by decide +kernel
theorem dX1_enqueue_91 : decode cX1_enqueue 91 = .ok (.invokestatic 144, 3) := by decide +kernel
theorem dX1_enqueue_94 : decode cX1_enqueue 94 = .ok (.putfield 99, 3) := by decide +kernel
theorem dX1_enqueue_97 : decode cX1_enqueue 97 = .ok (.aload_n 0, 1) := by decide +kernel
theorem dX1_enqueue_98 : decode cX1_enqueue 98 = .ok (.getfield 102, 3) := by decide +kernel
theorem dX1_enqueue_101 : decode cX1_enqueue 101 = .ok (.istore 4, 2) := by decide +kernel
theorem dX1_enqueue_103 : decode cX1_enqueue 103 = .ok (.aload_n 0, 1) := by decide +kernel
theorem dX1_enqueue_104 : decode cX1_enqueue 104 = .ok (.dup, 1) := by decide +kernel
theorem dX1_enqueue_105 : decode cX1_enqueue 105 = .ok (.getfield 102, 3) := by decide +kernel
theorem dX1_enqueue_108 : decode cX1_enqueue 108 = .ok (.iconst 1, 1) := by decide +kernel
theorem dX1_enqueue_109 : decode cX1_enqueue 109 = .ok (.iadd, 1) := by decide +kernel
theorem dX1_enqueue_110 : decode cX1_enqueue 110 = .ok (.putfield 102, 3) := by decide +kernel
theorem dX1_enqueue_113 : decode cX1_enqueue 113 = .ok (.aload_n 0, 1) := by decide +kernel
theorem dX1_enqueue_114 : decode cX1_enqueue 114 = .ok (.getfield 90, 3) := by decide +kernel
theorem dX1_enqueue_117 : decode cX1_enqueue 117 = .ok (.iload 4, 2) := by decide +kernel
theorem dX1_enqueue_119 : decode cX1_enqueue 119 = .ok (.iload_n 1, 1) := by decide +kernel
theorem dX1_enqueue_120 : decode cX1_enqueue 120 = .ok (.iastore, 1) := by decide +kernel
theorem dX1_enqueue_121 : decode cX1_enqueue 121 = .ok (.aload_n 0, 1) := by decide +kernel
theorem dX1_enqueue_122 : decode cX1_enqueue 122 = .ok (.getfield 93, 3) := by decide +kernel
theorem dX1_enqueue_125 : decode cX1_enqueue 125 = .ok (.iload 4, 2) := by decide +kernel
theorem dX1_enqueue_127 : decode cX1_enqueue 127 = .ok (.iload_n 2, 1) := by decide +kernel
theorem dX1_enqueue_128 : decode cX1_enqueue 128 = .ok (.iastore, 1) := by decide +kernel
theorem dX1_enqueue_129 : decode cX1_enqueue 129 = .ok (.aload_n 0, 1) := by decide +kernel
theorem dX1_enqueue_130 : decode cX1_enqueue 130 = .ok (.getfield 96, 3) := by decide +kernel
theorem dX1_enqueue_133 : decode cX1_enqueue 133 = .ok (.iload 4, 2) := by decide +kernel
theorem dX1_enqueue_135 : decode cX1_enqueue 135 = .ok (.iload_n 3, 1) := by decide +kernel
theorem dX1_enqueue_136 : decode cX1_enqueue 136 = .ok (.iastore, 1) := by decide +kernel
theorem dX1_enqueue_137 : decode cX1_enqueue 137 = .ok (.aload_n 0, 1) := by decide +kernel
theorem dX1_enqueue_138 : decode cX1_enqueue 138 = .ok (.getfield 99, 3) := by decide +kernel
theorem dX1_enqueue_141 : decode cX1_enqueue 141 = .ok (.iload 4, 2) := by decide +kernel
theorem dX1_enqueue_143 : decode cX1_enqueue 143 = .ok (.iconst 0, 1) := by decide +kernel
theorem dX1_enqueue_144 : decode cX1_enqueue 144 = .ok (.iastore, 1) := by decide +kernel
theorem dX1_enqueue_145 : decode cX1_enqueue 145 = .ok (.aload_n 0, 1) := by decide +kernel
theorem dX1_enqueue_146 : decode cX1_enqueue 146 = .ok (.getfield 177, 3) := by decide +kernel
theorem dX1_enqueue_149 : decode cX1_enqueue 149 = .ok (.ifCond .ne 12, 3) := by decide +kernel
theorem dX1_enqueue_152 : decode cX1_enqueue 152 = .ok (.aload_n 0, 1) := by decide +kernel
theorem dX1_enqueue_153 : decode cX1_enqueue 153 = .ok (.iload 4, 2) := by decide +kernel
theorem dX1_enqueue_155 : decode cX1_enqueue 155 = .ok (.putfield 177, 3) := by decide +kernel
theorem dX1_enqueue_158 : decode cX1_enqueue 158 = .ok (.goto 14, 3) := by decide +kernel
theorem dX1_enqueue_161 : decode cX1_enqueue 161 = .ok (.aload_n 0, 1) := by decide +kernel
theorem dX1_enqueue_162 : decode cX1_enqueue 162 = .ok (.getfield 99, 3) := by decide +kernel
theorem dX1_enqueue_165 : decode cX1_enqueue 165 = .ok (.aload_n 0, 1) := by decide +kernel
theorem dX1_enqueue_166 : decode cX1_enqueue 166 = .ok (.getfield 180, 3) := by decide +kernel
theorem dX1_enqueue_169 : decode cX1_enqueue 169 = .ok (.iload 4, 2) := by decide +kernel
theorem dX1_enqueue_171 : decode cX1_enqueue 171 = .ok (.iastore, 1) := by decide +kernel
theorem dX1_enqueue_172 : decode cX1_enqueue 172 = .ok (.aload_n 0, 1) := by decide +kernel
theorem dX1_enqueue_173 : decode cX1_enqueue 173 = .ok (.iload 4, 2) := by decide +kernel
theorem dX1_enqueue_175 : decode cX1_enqueue 175 = .ok (.putfield 180, 3) := by decide +kernel
theorem dX1_enqueue_178 : decode cX1_enqueue 178 = .ok (.aload_n 0, 1) := by decide +kernel
theorem dX1_enqueue_179 : decode cX1_enqueue 179 = .ok (.dup, 1) := by decide +kernel
theorem dX1_enqueue_180 : decode cX1_enqueue 180 = .ok (.getfield 183, 3) := by decide +kernel
theorem dX1_enqueue_183 : decode cX1_enqueue 183 = .ok (.iconst 1, 1) := by decide +kernel
theorem dX1_enqueue_184 : decode cX1_enqueue 184 = .ok (.iadd, 1) := by decide +kernel
theorem dX1_enqueue_185 : decode cX1_enqueue 185 = .ok (.putfield 183, 3) := by decide +kernel
theorem dX1_enqueue_188 : decode cX1_enqueue 188 = .ok (.return_, 1) := by decide +kernel
section WALK
variable {p : Program} {l : Launch} {e : Env} {R : Room} {s : State} {m : MethodId} {args : Array Value} {below : List Frame} {meth : Method} {c : Code} {H : Heap} {locs : List Loc} {cells slots : Nat}
variable {E : Ev} {h0 : Nat} {P0 : Le} {kc0 ks0 : Nat} {S0 : State} {A : Nat → Prop} {P : Le} {ls : Array Slot}
theorem m1_object {a1 : Int} {V : Mv} {Z : Le} {Q : Po} {PX : Px} (r1 : inR a1) (hM : inM V) (hw : w1_object a1 V Z Q) : MT l S0 E 0 h0 yX1_object cX1_object 2 (some .int) 1 true (sbs []) [.int (I3 a1)] (toC V) Z (QL Q) (PL PX) := by
  refine mt_of Gk0 (by decide) rfl (Nat.le_of_ble_eq_true rfl) ?_
  intro p e s m below meth c A P ls X hS hl
  have hl : lv_has ls 2 [(0, .ref h0), (1, .int (I3 a1))] := hl
  have hx := X.2.1
  have hb := X.2.2.1
  unfold w1_object at hw
  refine lv_aload_n hx hb dX1_object_0 rfl (lv_at hl 0 rfl) ?_
  refine r_ga X hS f1_0 dX1_object_1 ?_
  refine lv_aload_n hx hb dX1_object_4 rfl (lv_at hl 0 rfl) ?_
  refine z_gi X hS f1_7 dX1_object_5 ?_
  refine lv_iload_n hx hb dX1_object_8 rfl (lv_at hl 1 rfl) ?_
  refine z_is X hS hM a1_0 r1 hw dX1_object_9 (fun V1 hM2 hw H locs hS => ?_)
  refine lv_aload_n hx hb dX1_object_10 rfl (lv_at hl 0 rfl) ?_
  refine r_ga X hS f1_3 dX1_object_11 ?_
  refine lv_aload_n hx hb dX1_object_14 rfl (lv_at hl 0 rfl) ?_
  refine z_gi X hS f1_7 dX1_object_15 ?_
  refine z_iconst hx hb dX1_object_18 ?_
  refine z_is X hS hM2 a1_3 (⟨by decide, by decide⟩) hw dX1_object_19 (fun V3 hM4 hw H locs hS => ?_)
  refine lv_aload_n hx hb dX1_object_20 rfl (lv_at hl 0 rfl) ?_
  refine r_ga X hS f1_5 dX1_object_21 ?_
  refine lv_aload_n hx hb dX1_object_24 rfl (lv_at hl 0 rfl) ?_
  refine z_gi X hS f1_7 dX1_object_25 ?_
  refine z_iconst hx hb dX1_object_28 ?_
  refine z_is X hS hM4 a1_5 (⟨by decide, by decide⟩) hw dX1_object_29 (fun V5 hM6 hw H locs hS => ?_)
  refine lv_aload_n hx hb dX1_object_30 rfl (lv_at hl 0 rfl) ?_
  refine lv_dup hx hb dX1_object_31 rfl ?_
  refine z_gi X hS f1_7 dX1_object_32 ?_
  refine z_iconst hx hb dX1_object_35 ?_
  refine z_add hx hb hw dX1_object_36 (fun h7 hw => ?_)
  refine z_pi X hS hM6 f1_7 p1_7 h7 hw dX1_object_37 (fun V8 hM9 hw H locs hS => ?_)
  refine lv_aload_n hx hb dX1_object_40 rfl (lv_at hl 0 rfl) ?_
  refine z_gi X hS f1_7 dX1_object_41 ?_
  refine z_iconst hx hb dX1_object_44 ?_
  refine z_sub hx hb hw dX1_object_45 (fun h10 hw => ?_)
  exact z_ri X hS hM9 h10 hw dX1_object_46
theorem m1_function_J72 {a1 : Int} {a2 : Int} {a3 : Int} {a4 : Int} {V : Mv} {Z : Le} {Q : Po} {PX : Px} (X : Cx E 0 h0 P0 kc0 ks0 S0 A p l R s m args meth c cX1_function 6 (some .int) 3) (hM : inM V) (hS : HS E 0 h0 P0 kc0 ks0 (sbs [15, 16, 17, 18]) A s.heap P (toC V) Z H locs cells slots) (hl : lv_has ls 6 [(0, .ref h0), (1, .int (I3 a1)), (2, .int (I3 a2)), (3, .int (I3 a3)), (4, .int (I3 a4))]) (r1 : inR a1) (r2 : inR a2) (r3 : inR a3) (r4 : inR a4) (hw : w1_function_J72 a1 a2 a3 a4 V Z Q) : W p l e R s m args below meth c H locs cells slots (MQx below (QT E 0 h0 true P0 kc0 ks0 (sbs [15, 16, 17, 18]) A (QL Q) (PL PX) s) s) (F0 m 72 ls []) := by
  have hx := X.2.1
  have hb := X.2.2.1
  unfold w1_function_J72 at hw
  refine lv_aload_n hx hb dX1_function_72 rfl (lv_at hl 0 rfl) ?_
  refine r_ga X hS f1_15 dX1_function_73 ?_
  refine lv_aload_n hx hb dX1_function_76 rfl (lv_at hl 0 rfl) ?_
  refine z_gi X hS f1_19 dX1_function_77 ?_
  refine lv_iload_n hx hb dX1_function_80 rfl (lv_at hl 1 rfl) ?_
  refine z_is X hS hM a1_15 r1 hw dX1_function_81 (fun V1 hM2 hw H locs hS => ?_)
  refine lv_aload_n hx hb dX1_function_82 rfl (lv_at hl 0 rfl) ?_
  refine r_ga X hS f1_16 dX1_function_83 ?_
  refine lv_aload_n hx hb dX1_function_86 rfl (lv_at hl 0 rfl) ?_
  refine z_gi X hS f1_19 dX1_function_87 ?_
  refine lv_iload_n hx hb dX1_function_90 rfl (lv_at hl 2 rfl) ?_
  refine z_is X hS hM2 a1_16 r2 hw dX1_function_91 (fun V3 hM4 hw H locs hS => ?_)
  refine lv_aload_n hx hb dX1_function_92 rfl (lv_at hl 0 rfl) ?_
  refine r_ga X hS f1_17 dX1_function_93 ?_
  refine lv_aload_n hx hb dX1_function_96 rfl (lv_at hl 0 rfl) ?_
  refine z_gi X hS f1_19 dX1_function_97 ?_
  refine lv_iload_n hx hb dX1_function_100 rfl (lv_at hl 3 rfl) ?_
  refine z_is X hS hM4 a1_17 r3 hw dX1_function_101 (fun V5 hM6 hw H locs hS => ?_)
  refine lv_aload_n hx hb dX1_function_102 rfl (lv_at hl 0 rfl) ?_
  refine r_ga X hS f1_18 dX1_function_103 ?_
  refine lv_aload_n hx hb dX1_function_106 rfl (lv_at hl 0 rfl) ?_
  refine z_gi X hS f1_19 dX1_function_107 ?_
  refine lv_iload hx hb dX1_function_110 (lv_at hl 4 rfl) ?_
  refine z_is X hS hM6 a1_18 r4 hw dX1_function_112 (fun V7 hM8 hw H locs hS => ?_)
  refine lv_aload_n hx hb dX1_function_113 rfl (lv_at hl 0 rfl) ?_
  refine lv_dup hx hb dX1_function_114 rfl ?_
  refine z_gi X hS f1_19 dX1_function_115 ?_
  refine z_iconst hx hb dX1_function_118 ?_
  refine z_add hx hb hw dX1_function_119 (fun h9 hw => ?_)
  refine z_pi X hS hM8 f1_19 p1_19 h9 hw dX1_function_120 (fun V10 hM11 hw H locs hS => ?_)
  refine lv_aload_n hx hb dX1_function_123 rfl (lv_at hl 0 rfl) ?_
  refine z_gi X hS f1_19 dX1_function_124 ?_
  refine z_iconst hx hb dX1_function_127 ?_
  refine z_sub hx hb hw dX1_function_128 (fun h12 hw => ?_)
  exact z_ri X hS hM11 h12 hw dX1_function_129
theorem m1_function {a1 : Int} {a2 : Int} {a3 : Int} {a4 : Int} {V : Mv} {Z : Le} {Q : Po} {PX : Px} (r1 : inR a1) (r2 : inR a2) (r3 : inR a3) (r4 : inR a4) (hM : inM V) (hw : w1_function a1 a2 a3 a4 V Z Q) : MT l S0 E 0 h0 yX1_function cX1_function 6 (some .int) 3 true (sbs [15, 16, 17, 18]) [.int (I3 a1), .int (I3 a2), .int (I3 a3), .int (I3 a4)] (toC V) Z (QL Q) (PL PX) := by
  refine mt_of Gk0 (by decide) rfl (Nat.le_of_ble_eq_true rfl) ?_
  intro p e s m below meth c A P ls X hS hl
  have hl : lv_has ls 6 [(0, .ref h0), (1, .int (I3 a1)), (2, .int (I3 a2)), (3, .int (I3 a3)), (4, .int (I3 a4))] := hl
  have hx := X.2.1
  have hb := X.2.2.1
  unfold w1_function at hw
  refine lv_aload_n hx hb dX1_function_0 rfl (lv_at hl 0 rfl) ?_
  refine z_gi X hS f1_19 dX1_function_1 ?_
  refine lv_aload_n hx hb dX1_function_4 rfl (lv_at hl 0 rfl) ?_
  refine r_ga X hS f1_15 dX1_function_5 ?_
  refine z_len X hS a1_15 dX1_function_8 ?_
  refine z_ine (tgt := 72) hx hb (hM 19 0) (z_lenR hS a1_15) hw dX1_function_9 (by decide) (fun hc hw => ?_) (fun hc hw => ?_)
  · exact m1_function_J72 X hM hS (lv_sub hl [0, 1, 2, 3, 4] rfl) r1 r2 r3 r4 hw
  · refine z_iconst hx hb dX1_function_12 ?_
    refine lv_aload_n hx hb dX1_function_13 rfl (lv_at hl 0 rfl) ?_
    refine z_gi X hS f1_19 dX1_function_14 ?_
    refine z_mul hx hb hw dX1_function_17 (fun h13 hw => ?_)
    refine lv_istore (lv' := [(5, .int (I3 (2 * V 19 0))), (0, .ref h0), (1, .int (I3 a1)), (2, .int (I3 a2)), (3, .int (I3 a3)), (4, .int (I3 a4))]) hx hb dX1_function_18 hl (by decide) rfl (fun ls hl => ?_)
    refine lv_aload_n hx hb dX1_function_20 rfl (lv_at hl 1 rfl) ?_
    refine lv_aload_n hx hb dX1_function_21 rfl (lv_at hl 1 rfl) ?_
    refine r_ga X hS f1_15 dX1_function_22 ?_
    refine lv_iload hx hb dX1_function_25 (lv_at hl 0 rfl) ?_
    refine z_grow X hS hM f1_15 a1_15 rfl rfl (by decide) hw gs1_144 (by omega) hl.1 (Nat.le_of_ble_eq_true rfl) dX1_function_27 dX1_function_30 (fun V14 Z15 hM16 hw P17 H locs c1 s1 hP hS => ?_)
    refine lv_aload_n hx hb dX1_function_33 rfl (lv_at hl 1 rfl) ?_
    refine lv_aload_n hx hb dX1_function_34 rfl (lv_at hl 1 rfl) ?_
    refine r_ga X hS f1_16 dX1_function_35 ?_
    refine lv_iload hx hb dX1_function_38 (lv_at hl 0 rfl) ?_
    refine z_grow X hS hM16 f1_16 a1_16 rfl rfl (by decide) hw gs1_144 (by omega) hl.1 (Nat.le_of_ble_eq_true rfl) dX1_function_40 dX1_function_43 (fun V18 Z19 hM20 hw P21 H locs c1 s1 hP hS => ?_)
    refine lv_aload_n hx hb dX1_function_46 rfl (lv_at hl 1 rfl) ?_
    refine lv_aload_n hx hb dX1_function_47 rfl (lv_at hl 1 rfl) ?_
    refine r_ga X hS f1_17 dX1_function_48 ?_
    refine lv_iload hx hb dX1_function_51 (lv_at hl 0 rfl) ?_
    refine z_grow X hS hM20 f1_17 a1_17 rfl rfl (by decide) hw gs1_144 (by omega) hl.1 (Nat.le_of_ble_eq_true rfl) dX1_function_53 dX1_function_56 (fun V22 Z23 hM24 hw P25 H locs c1 s1 hP hS => ?_)
    refine lv_aload_n hx hb dX1_function_59 rfl (lv_at hl 1 rfl) ?_
    refine lv_aload_n hx hb dX1_function_60 rfl (lv_at hl 1 rfl) ?_
    refine r_ga X hS f1_18 dX1_function_61 ?_
    refine lv_iload hx hb dX1_function_64 (lv_at hl 0 rfl) ?_
    refine z_grow X hS hM24 f1_18 a1_18 rfl rfl (by decide) hw gs1_144 (by omega) hl.1 (Nat.le_of_ble_eq_true rfl) dX1_function_66 dX1_function_69 (fun V26 Z27 hM28 hw P29 H locs c1 s1 hP hS => ?_)
    exact m1_function_J72 X hM28 hS (lv_sub hl [1, 2, 3, 4, 5] rfl) r1 r2 r3 r4 hw
theorem m1_newCell_J29 {a1 : Int} {V : Mv} {Z : Le} {Q : Po} {PX : Px} (X : Cx E 0 h0 P0 kc0 ks0 S0 A p l R s m args meth c cX1_newCell 2 (some .int) 3) (hM : inM V) (hS : HS E 0 h0 P0 kc0 ks0 (sbs [20]) A s.heap P (toC V) Z H locs cells slots) (hl : lv_has ls 2 [(0, .ref h0), (1, .int (I3 a1))]) (r1 : inR a1) (hw : w1_newCell_J29 a1 V Z Q) : W p l e R s m args below meth c H locs cells slots (MQx below (QT E 0 h0 true P0 kc0 ks0 (sbs [20]) A (QL Q) (PL PX) s) s) (F0 m 29 ls []) := by
  have hx := X.2.1
  have hb := X.2.2.1
  unfold w1_newCell_J29 at hw
  refine lv_aload_n hx hb dX1_newCell_29 rfl (lv_at hl 0 rfl) ?_
  refine r_ga X hS f1_20 dX1_newCell_30 ?_
  refine lv_aload_n hx hb dX1_newCell_33 rfl (lv_at hl 0 rfl) ?_
  refine z_gi X hS f1_21 dX1_newCell_34 ?_
  refine lv_iload_n hx hb dX1_newCell_37 rfl (lv_at hl 1 rfl) ?_
  refine z_is X hS hM a1_20 r1 hw dX1_newCell_38 (fun V1 hM2 hw H locs hS => ?_)
  refine lv_aload_n hx hb dX1_newCell_39 rfl (lv_at hl 0 rfl) ?_
  refine lv_dup hx hb dX1_newCell_40 rfl ?_
  refine z_gi X hS f1_21 dX1_newCell_41 ?_
  refine z_iconst hx hb dX1_newCell_44 ?_
  refine z_add hx hb hw dX1_newCell_45 (fun h3 hw => ?_)
  refine z_pi X hS hM2 f1_21 p1_21 h3 hw dX1_newCell_46 (fun V4 hM5 hw H locs hS => ?_)
  refine lv_aload_n hx hb dX1_newCell_49 rfl (lv_at hl 0 rfl) ?_
  refine z_gi X hS f1_21 dX1_newCell_50 ?_
  refine z_iconst hx hb dX1_newCell_53 ?_
  refine z_sub hx hb hw dX1_newCell_54 (fun h6 hw => ?_)
  exact z_ri X hS hM5 h6 hw dX1_newCell_55
theorem m1_newCell {a1 : Int} {V : Mv} {Z : Le} {Q : Po} {PX : Px} (r1 : inR a1) (hM : inM V) (hw : w1_newCell a1 V Z Q) : MT l S0 E 0 h0 yX1_newCell cX1_newCell 2 (some .int) 3 true (sbs [20]) [.int (I3 a1)] (toC V) Z (QL Q) (PL PX) := by
  refine mt_of Gk0 (by decide) rfl (Nat.le_of_ble_eq_true rfl) ?_
  intro p e s m below meth c A P ls X hS hl
  have hl : lv_has ls 2 [(0, .ref h0), (1, .int (I3 a1))] := hl
  have hx := X.2.1
  have hb := X.2.2.1
  unfold w1_newCell at hw
  refine lv_aload_n hx hb dX1_newCell_0 rfl (lv_at hl 0 rfl) ?_
  refine z_gi X hS f1_21 dX1_newCell_1 ?_
  refine lv_aload_n hx hb dX1_newCell_4 rfl (lv_at hl 0 rfl) ?_
  refine r_ga X hS f1_20 dX1_newCell_5 ?_
  refine z_len X hS a1_20 dX1_newCell_8 ?_
  refine z_ine (tgt := 29) hx hb (hM 21 0) (z_lenR hS a1_20) hw dX1_newCell_9 (by decide) (fun hc hw => ?_) (fun hc hw => ?_)
  · exact m1_newCell_J29 X hM hS (lv_sub hl [0, 1] rfl) r1 hw
  · refine lv_aload_n hx hb dX1_newCell_12 rfl (lv_at hl 0 rfl) ?_
    refine lv_aload_n hx hb dX1_newCell_13 rfl (lv_at hl 0 rfl) ?_
    refine r_ga X hS f1_20 dX1_newCell_14 ?_
    refine z_iconst hx hb dX1_newCell_17 ?_
    refine lv_aload_n hx hb dX1_newCell_18 rfl (lv_at hl 0 rfl) ?_
    refine z_gi X hS f1_21 dX1_newCell_19 ?_
    refine z_mul hx hb hw dX1_newCell_22 (fun h7 hw => ?_)
    refine z_grow X hS hM f1_20 a1_20 rfl rfl (by decide) hw gs1_144 (by omega) hl.1 (Nat.le_of_ble_eq_true rfl) dX1_newCell_23 dX1_newCell_26 (fun V8 Z9 hM10 hw P11 H locs c1 s1 hP hS => ?_)
    exact m1_newCell_J29 X hM10 hS (lv_sub hl [0, 1] rfl) r1 hw
theorem m1_row_L37 {Q : Po} {PX : Px} (X : Cx E 0 h0 P0 kc0 ks0 S0 A p l R s m args meth c cX1_row 3 (some .int) 3) : ∀ n, ∀ {a1 : Int} {a2 : Int} {V : Mv} {Z : Le} {P : Le} {H : Heap} {locs : List Loc} {cells slots : Nat} {ls : Array Slot}, inM V → HS E 0 h0 P0 kc0 ks0 (sbs [38]) A s.heap P (toC V) Z H locs cells slots → lv_has ls 3 [(0, .ref h0), (1, .int (I3 a1)), (2, .int (I3 a2))] → inR a1 → inR a2 → w1_row_L37 Q n a1 a2 V Z → W p l e R s m args below meth c H locs cells slots (MQx below (QT E 0 h0 true P0 kc0 ks0 (sbs [38]) A (QL Q) (PL PX) s) s) (F0 m 37 ls []) := by
  have hx := X.2.1
  have hb := X.2.2.1
  intro n
  induction n with
  | zero => intros; rename_i hw; exact hw.elim
  | succ n ih =>
    intro a1 a2 V Z P H locs cells slots ls hM hS hl r1 r2 hw
    unfold w1_row_L37 at hw
    refine lv_iload_n hx hb dX1_row_37 rfl (lv_at hl 2 rfl) ?_
    refine lv_iload_n hx hb dX1_row_38 rfl (lv_at hl 1 rfl) ?_
    refine z_ige (tgt := 60) hx hb r2 r1 hw dX1_row_39 (by decide) (fun hc hw => ?_) (fun hc hw => ?_)
    · refine lv_aload_n hx hb dX1_row_60 rfl (lv_at hl 0 rfl) ?_
      refine lv_dup hx hb dX1_row_61 rfl ?_
      refine z_gi X hS f1_39 dX1_row_62 ?_
      refine lv_iload_n hx hb dX1_row_65 rfl (lv_at hl 1 rfl) ?_
      refine z_add hx hb hw dX1_row_66 (fun h1 hw => ?_)
      refine z_pi X hS hM f1_39 p1_39 h1 hw dX1_row_67 (fun V2 hM3 hw H locs hS => ?_)
      refine lv_aload_n hx hb dX1_row_70 rfl (lv_at hl 0 rfl) ?_
      refine z_gi X hS f1_39 dX1_row_71 ?_
      refine lv_iload_n hx hb dX1_row_74 rfl (lv_at hl 1 rfl) ?_
      refine z_sub hx hb hw dX1_row_75 (fun h4 hw => ?_)
      exact z_ri X hS hM3 h4 hw dX1_row_76
    · refine lv_aload_n hx hb dX1_row_42 rfl (lv_at hl 0 rfl) ?_
      refine r_ga X hS f1_38 dX1_row_43 ?_
      refine lv_aload_n hx hb dX1_row_46 rfl (lv_at hl 0 rfl) ?_
      refine z_gi X hS f1_39 dX1_row_47 ?_
      refine lv_iload_n hx hb dX1_row_50 rfl (lv_at hl 2 rfl) ?_
      refine z_add hx hb hw dX1_row_51 (fun h5 hw => ?_)
      refine z_iconst hx hb dX1_row_52 ?_
      refine z_is X hS hM a1_38 (⟨by decide, by decide⟩) hw dX1_row_53 (fun V6 hM7 hw H locs hS => ?_)
      refine z_inc (k := 2) (lv' := [(2, .int (I3 (a2 + 1))), (0, .ref h0), (1, .int (I3 a1))]) hx hb hw dX1_row_54 hl rfl (by decide) rfl (fun ls hl h8 hw => ?_)
      refine lv_goto (tgt := 37) hx hb dX1_row_57 (by decide) ?_
      exact ih hM7 hS (lv_sub hl [1, 2, 0] rfl) r1 h8 hw
theorem m1_row_L0 {Q : Po} {PX : Px} (X : Cx E 0 h0 P0 kc0 ks0 S0 A p l R s m args meth c cX1_row 3 (some .int) 3) : ∀ n, ∀ {a1 : Int} {V : Mv} {Z : Le} {P : Le} {H : Heap} {locs : List Loc} {cells slots : Nat} {ls : Array Slot}, inM V → HS E 0 h0 P0 kc0 ks0 (sbs [38]) A s.heap P (toC V) Z H locs cells slots → lv_has ls 3 [(0, .ref h0), (1, .int (I3 a1))] → inR a1 → w1_row_L0 Q n a1 V Z → W p l e R s m args below meth c H locs cells slots (MQx below (QT E 0 h0 true P0 kc0 ks0 (sbs [38]) A (QL Q) (PL PX) s) s) (F0 m 0 ls []) := by
  have hx := X.2.1
  have hb := X.2.2.1
  intro n
  induction n with
  | zero => intros; rename_i hw; exact hw.elim
  | succ n ih =>
    intro a1 V Z P H locs cells slots ls hM hS hl r1 hw
    unfold w1_row_L0 at hw
    refine lv_aload_n hx hb dX1_row_0 rfl (lv_at hl 0 rfl) ?_
    refine z_gi X hS f1_39 dX1_row_1 ?_
    refine lv_iload_n hx hb dX1_row_4 rfl (lv_at hl 1 rfl) ?_
    refine z_add hx hb hw dX1_row_5 (fun h9 hw => ?_)
    refine lv_aload_n hx hb dX1_row_6 rfl (lv_at hl 0 rfl) ?_
    refine r_ga X hS f1_38 dX1_row_7 ?_
    refine z_len X hS a1_38 dX1_row_10 ?_
    refine z_ile (tgt := 35) hx hb h9 (z_lenR hS a1_38) hw dX1_row_11 (by decide) (fun hc hw => ?_) (fun hc hw => ?_)
    · refine z_iconst hx hb dX1_row_35 ?_
      refine lv_istore_n (lv' := [(2, .int (I3 0)), (0, .ref h0), (1, .int (I3 a1))]) hx hb dX1_row_36 rfl hl (by decide) rfl (fun ls hl => ?_)
      obtain ⟨n, hw⟩ := hw
      exact m1_row_L37 X n hM hS (lv_sub hl [1, 2, 0] rfl) r1 (⟨by decide, by decide⟩) hw
    · refine lv_aload_n hx hb dX1_row_14 rfl (lv_at hl 0 rfl) ?_
      refine lv_aload_n hx hb dX1_row_15 rfl (lv_at hl 0 rfl) ?_
      refine r_ga X hS f1_38 dX1_row_16 ?_
      refine z_iconst hx hb dX1_row_19 ?_
      refine lv_aload_n hx hb dX1_row_20 rfl (lv_at hl 0 rfl) ?_
      refine r_ga X hS f1_38 dX1_row_21 ?_
      refine z_len X hS a1_38 dX1_row_24 ?_
      refine z_mul hx hb hw dX1_row_25 (fun h10 hw => ?_)
      refine z_grow X hS hM f1_38 a1_38 rfl rfl (by decide) hw gs1_144 (by omega) hl.1 (Nat.le_of_ble_eq_true rfl) dX1_row_26 dX1_row_29 (fun V11 Z12 hM13 hw P14 H locs c1 s1 hP hS => ?_)
      refine lv_goto (tgt := 0) hx hb dX1_row_32 (by decide) ?_
      exact ih hM13 hS (lv_sub hl [0, 1] rfl) r1 hw
theorem m1_row {a1 : Int} {V : Mv} {Z : Le} {Q : Po} {PX : Px} (r1 : inR a1) (hM : inM V) (hw : w1_row a1 V Z Q) : MT l S0 E 0 h0 yX1_row cX1_row 3 (some .int) 3 true (sbs [38]) [.int (I3 a1)] (toC V) Z (QL Q) (PL PX) := by
  refine mt_of Gk0 (by decide) rfl (Nat.le_of_ble_eq_true rfl) ?_
  intro p e s m below meth c A P ls X hS hl
  have hl : lv_has ls 3 [(0, .ref h0), (1, .int (I3 a1))] := hl
  have hx := X.2.1
  have hb := X.2.2.1
  unfold w1_row at hw
  obtain ⟨n, hw⟩ := hw
  exact m1_row_L0 X n hM hS (lv_sub hl [0, 1] rfl) r1 hw
theorem m1_holder {a1 : Int} {a2 : Int} {a3 : Int} {V : Mv} {Z : Le} {Q : Po} {PX : Px} (r1 : inR a1) (r2 : inR a2) (r3 : inR a3) (hM : inM V) (hw : w1_holder a1 a2 a3 V Z Q) : MT l S0 E 0 h0 yX1_holder cX1_holder 5 (some .int) 2 true (sbs []) [.int (I3 a1), .int (I3 a2), .int (I3 a3)] (toC V) Z (QL Q) (PL PX) := by
  refine mt_of Gk0 (by decide) rfl (Nat.le_of_ble_eq_true rfl) ?_
  intro p e s m below meth c A P ls X hS hl
  have hl : lv_has ls 5 [(0, .ref h0), (1, .int (I3 a1)), (2, .int (I3 a2)), (3, .int (I3 a3))] := hl
  have hx := X.2.1
  have hb := X.2.2.1
  unfold w1_holder at hw
  refine lv_aload_n hx hb dX1_holder_0 rfl (lv_at hl 0 rfl) ?_
  refine lv_iload_n hx hb dX1_holder_1 rfl (lv_at hl 1 rfl) ?_
  refine z_callI X hS (m1_object r1 hM hw) gv1_156 hy1_object rfl (by omega) (by decide) (sbs_sub rfl) hl.1 (Nat.le_of_ble_eq_true rfl) dX1_holder_2 rfl (fun x1 V3 Z4 h2 hM5 hw P6 H locs c1 s1 hP hS => ?_)
  refine lv_istore (lv' := [(4, .int (I3 x1)), (0, .ref h0), (1, .int (I3 a1)), (2, .int (I3 a2)), (3, .int (I3 a3))]) hx hb dX1_holder_5 hl (by decide) rfl (fun ls hl => ?_)
  refine lv_aload_n hx hb dX1_holder_7 rfl (lv_at hl 1 rfl) ?_
  refine r_ga X hS f1_1 dX1_holder_8 ?_
  refine lv_iload hx hb dX1_holder_11 (lv_at hl 0 rfl) ?_
  refine lv_iload_n hx hb dX1_holder_13 rfl (lv_at hl 3 rfl) ?_
  refine z_is X hS hM5 a1_1 r2 hw dX1_holder_14 (fun V7 hM8 hw H locs hS => ?_)
  refine lv_aload_n hx hb dX1_holder_15 rfl (lv_at hl 1 rfl) ?_
  refine r_ga X hS f1_2 dX1_holder_16 ?_
  refine lv_iload hx hb dX1_holder_19 (lv_at hl 0 rfl) ?_
  refine lv_iload_n hx hb dX1_holder_21 rfl (lv_at hl 4 rfl) ?_
  refine z_is X hS hM8 a1_2 r3 hw dX1_holder_22 (fun V9 hM10 hw H locs hS => ?_)
  refine lv_iload hx hb dX1_holder_23 (lv_at hl 0 rfl) ?_
  refine z_vo X hS hw gs1_160 (by omega) hl.1 (Nat.le_of_ble_eq_true rfl) dX1_holder_25 (fun h11 hw => ?_)
  exact z_ri X hS hM10 h11 hw dX1_holder_28
theorem m1_error {V : Mv} {Z : Le} {Q : Po} {PX : Px} (hM : inM V) (hw : w1_error  V Z Q) : MT l S0 E 0 h0 yX1_error cX1_error 1 (some .int) 2 true (sbs []) [] (toC V) Z (QL Q) (PL PX) := by
  refine mt_of Gk0 (by decide) rfl (Nat.le_of_ble_eq_true rfl) ?_
  intro p e s m below meth c A P ls X hS hl
  have hl : lv_has ls 1 [(0, .ref h0)] := hl
  have hx := X.2.1
  have hb := X.2.2.1
  unfold w1_error at hw
  refine lv_aload_n hx hb dX1_error_0 rfl (lv_at hl 0 rfl) ?_
  refine z_iconst hx hb dX1_error_1 ?_
  refine z_callI X hS (m1_object (⟨by decide, by decide⟩) hM hw) gv1_156 hy1_object rfl (by omega) (by decide) (sbs_sub rfl) hl.1 (Nat.le_of_ble_eq_true rfl) dX1_error_2 rfl (fun x1 V3 Z4 h2 hM5 hw P6 H locs c1 s1 hP hS => ?_)
  refine z_vo X hS hw gs1_160 (by omega) hl.1 (Nat.le_of_ble_eq_true rfl) dX1_error_5 (fun h7 hw => ?_)
  exact z_ri X hS hM5 h7 hw dX1_error_8
theorem m1_raise {a1 : Int} {V : Mv} {Z : Le} {Q : Po} {PX : Px} (r1 : inR a1) (hM : inM V) (hw : w1_raise a1 V Z Q) : MT l S0 E 0 h0 yX1_raise cX1_raise 2 (some .int) 1 true (sbs []) [.int (I3 a1)] (toC V) Z (QL Q) (PL PX) := by
  refine mt_of Gk0 (by decide) rfl (Nat.le_of_ble_eq_true rfl) ?_
  intro p e s m below meth c A P ls X hS hl
  have hl : lv_has ls 2 [(0, .ref h0), (1, .int (I3 a1))] := hl
  have hx := X.2.1
  have hb := X.2.2.1
  unfold w1_raise at hw
  refine lv_aload_n hx hb dX1_raise_0 rfl (lv_at hl 0 rfl) ?_
  refine z_iconst hx hb dX1_raise_1 ?_
  refine z_pz X hS hM f1_54 p1_54 (⟨by decide, by decide⟩) hw dX1_raise_2 (fun V1 hM2 hw H locs hS => ?_)
  refine lv_iload_n hx hb dX1_raise_5 rfl (lv_at hl 1 rfl) ?_
  exact z_ri X hS hM2 r1 hw dX1_raise_6
theorem m1_functionsOf {a1 : Int} {V : Mv} {Z : Le} {Q : Po} {PX : Px} (r1 : inR a1) (hM : inM V) (hw : w1_functionsOf a1 V Z Q) : MT l S0 E 0 h0 yX1_functionsOf cX1_functionsOf 4 (some .int) 4 true (sbs [15, 16, 17, 18, 20]) [.int (I3 a1)] (toC V) Z (QL Q) (PL PX) := by
  refine mt_of Gk0 (by decide) rfl (Nat.le_of_ble_eq_true rfl) ?_
  intro p e s m below meth c A P ls X hS hl
  have hl : lv_has ls 4 [(0, .ref h0), (1, .int (I3 a1))] := hl
  have hx := X.2.1
  have hb := X.2.2.1
  unfold w1_functionsOf at hw
  refine lv_aload_n hx hb dX1_functionsOf_0 rfl (lv_at hl 0 rfl) ?_
  refine z_iconst hx hb dX1_functionsOf_1 ?_
  refine z_callI X hS (m1_newCell (⟨by decide, by decide⟩) hM hw) gv1_167 hy1_newCell rfl (by omega) (by decide) (sbs_sub rfl) hl.1 (Nat.le_of_ble_eq_true rfl) dX1_functionsOf_2 rfl (fun x1 V3 Z4 h2 hM5 hw P6 H locs c1 s1 hP hS => ?_)
  refine lv_istore_n (lv' := [(2, .int (I3 x1)), (0, .ref h0), (1, .int (I3 a1))]) hx hb dX1_functionsOf_5 rfl hl (by decide) rfl (fun ls hl => ?_)
  refine lv_aload_n hx hb dX1_functionsOf_6 rfl (lv_at hl 1 rfl) ?_
  refine z_iconst hx hb dX1_functionsOf_7 ?_
  refine lv_iload_n hx hb dX1_functionsOf_8 rfl (lv_at hl 2 rfl) ?_
  refine lv_iload_n hx hb dX1_functionsOf_9 rfl (lv_at hl 0 rfl) ?_
  refine z_iconst hx hb dX1_functionsOf_10 ?_
  refine z_callI X hS (m1_function (⟨by decide, by decide⟩) r1 h2 (⟨by decide, by decide⟩) hM5 hw) gv1_170 hy1_function rfl (by omega) (by decide) (sbs_sub rfl) hl.1 (Nat.le_of_ble_eq_true rfl) dX1_functionsOf_11 rfl (fun x7 V9 Z10 h8 hM11 hw P12 H locs c1 s1 hP hS => ?_)
  refine lv_istore_n (lv' := [(3, .int (I3 x7)), (2, .int (I3 x1)), (0, .ref h0), (1, .int (I3 a1))]) hx hb dX1_functionsOf_14 rfl hl (by decide) rfl (fun ls hl => ?_)
  refine lv_aload_n hx hb dX1_functionsOf_15 rfl (lv_at hl 2 rfl) ?_
  refine z_iconst hx hb dX1_functionsOf_16 ?_
  refine lv_iload_n hx hb dX1_functionsOf_17 rfl (lv_at hl 3 rfl) ?_
  refine lv_iload_n hx hb dX1_functionsOf_18 rfl (lv_at hl 1 rfl) ?_
  refine z_iconst hx hb dX1_functionsOf_19 ?_
  refine z_callI X hS (m1_function (⟨by decide, by decide⟩) r1 h2 (⟨by decide, by decide⟩) hM11 hw) gv1_170 hy1_function rfl (by omega) (by decide) (sbs_sub rfl) hl.1 (Nat.le_of_ble_eq_true rfl) dX1_functionsOf_20 rfl (fun x13 V15 Z16 h14 hM17 hw P18 H locs c1 s1 hP hS => ?_)
  refine lv_pop hx hb dX1_functionsOf_23 rfl ?_
  refine lv_iload_n hx hb dX1_functionsOf_24 rfl (lv_at hl 0 rfl) ?_
  exact z_ri X hS hM17 h8 hw dX1_functionsOf_25
theorem m1_newPromise {V : Mv} {Z : Le} {Q : Po} {PX : Px} (hM : inM V) (hw : w1_newPromise  V Z Q) : MT l S0 E 0 h0 yX1_newPromise cX1_newPromise 1 (some .int) 2 true (sbs []) [] (toC V) Z (QL Q) (PL PX) := by
  refine mt_of Gk0 (by decide) rfl (Nat.le_of_ble_eq_true rfl) ?_
  intro p e s m below meth c A P ls X hS hl
  have hl : lv_has ls 1 [(0, .ref h0)] := hl
  have hx := X.2.1
  have hb := X.2.2.1
  unfold w1_newPromise at hw
  refine lv_aload_n hx hb dX1_newPromise_0 rfl (lv_at hl 0 rfl) ?_
  refine z_iconst hx hb dX1_newPromise_1 ?_
  refine z_callI X hS (m1_object (⟨by decide, by decide⟩) hM hw) gv1_156 hy1_object rfl (by omega) (by decide) (sbs_sub rfl) hl.1 (Nat.le_of_ble_eq_true rfl) dX1_newPromise_2 rfl (fun x1 V3 Z4 h2 hM5 hw P6 H locs c1 s1 hP hS => ?_)
  exact z_ri X hS hM5 h2 hw dX1_newPromise_5
theorem m1_enqueue_J172 {a4 : Int} {V : Mv} {Z : Le} {Q : Po} {PX : Px} (X : Cx E 0 h0 P0 kc0 ks0 S0 A p l R s m args meth c cX1_enqueue 6 none 3) (hM : inM V) (hS : HS E 0 h0 P0 kc0 ks0 (sbs [29, 30, 31, 32]) A s.heap P (toC V) Z H locs cells slots) (hl : lv_has ls 6 [(0, .ref h0), (4, .int (I3 a4))]) (r4 : inR a4) (hw : w1_enqueue_J172 a4 V Z Q) : W p l e R s m args below meth c H locs cells slots (MQx below (QT E 0 h0 false P0 kc0 ks0 (sbs [29, 30, 31, 32]) A (QL Q) (PL PX) s) s) (F0 m 172 ls []) := by
  have hx := X.2.1
  have hb := X.2.2.1
  unfold w1_enqueue_J172 at hw
  refine lv_aload_n hx hb dX1_enqueue_172 rfl (lv_at hl 0 rfl) ?_
  refine lv_iload hx hb dX1_enqueue_173 (lv_at hl 1 rfl) ?_
  refine z_pi X hS hM f1_35 p1_35 r4 hw dX1_enqueue_175 (fun V1 hM2 hw H locs hS => ?_)
  refine lv_aload_n hx hb dX1_enqueue_178 rfl (lv_at hl 0 rfl) ?_
  refine lv_dup hx hb dX1_enqueue_179 rfl ?_
  refine z_gi X hS f1_36 dX1_enqueue_180 ?_
  refine z_iconst hx hb dX1_enqueue_183 ?_
  refine z_add hx hb hw dX1_enqueue_184 (fun h3 hw => ?_)
  refine z_pi X hS hM2 f1_36 p1_36 h3 hw dX1_enqueue_185 (fun V4 hM5 hw H locs hS => ?_)
  exact z_rv X hS hM5 hw dX1_enqueue_188
theorem m1_enqueue_J113 {a1 : Int} {a2 : Int} {a3 : Int} {a4 : Int} {V : Mv} {Z : Le} {Q : Po} {PX : Px} (X : Cx E 0 h0 P0 kc0 ks0 S0 A p l R s m args meth c cX1_enqueue 6 none 3) (hM : inM V) (hS : HS E 0 h0 P0 kc0 ks0 (sbs [29, 30, 31, 32]) A s.heap P (toC V) Z H locs cells slots) (hl : lv_has ls 6 [(0, .ref h0), (1, .int (I3 a1)), (2, .int (I3 a2)), (3, .int (I3 a3)), (4, .int (I3 a4))]) (r1 : inR a1) (r2 : inR a2) (r3 : inR a3) (r4 : inR a4) (hw : w1_enqueue_J113 a1 a2 a3 a4 V Z Q) : W p l e R s m args below meth c H locs cells slots (MQx below (QT E 0 h0 false P0 kc0 ks0 (sbs [29, 30, 31, 32]) A (QL Q) (PL PX) s) s) (F0 m 113 ls []) := by
  have hx := X.2.1
  have hb := X.2.2.1
  unfold w1_enqueue_J113 at hw
  refine lv_aload_n hx hb dX1_enqueue_113 rfl (lv_at hl 0 rfl) ?_
  refine r_ga X hS f1_29 dX1_enqueue_114 ?_
  refine lv_iload hx hb dX1_enqueue_117 (lv_at hl 4 rfl) ?_
  refine lv_iload_n hx hb dX1_enqueue_119 rfl (lv_at hl 1 rfl) ?_
  refine z_is X hS hM a1_29 r1 hw dX1_enqueue_120 (fun V6 hM7 hw H locs hS => ?_)
  refine lv_aload_n hx hb dX1_enqueue_121 rfl (lv_at hl 0 rfl) ?_
  refine r_ga X hS f1_30 dX1_enqueue_122 ?_
  refine lv_iload hx hb dX1_enqueue_125 (lv_at hl 4 rfl) ?_
  refine lv_iload_n hx hb dX1_enqueue_127 rfl (lv_at hl 2 rfl) ?_
  refine z_is X hS hM7 a1_30 r2 hw dX1_enqueue_128 (fun V8 hM9 hw H locs hS => ?_)
  refine lv_aload_n hx hb dX1_enqueue_129 rfl (lv_at hl 0 rfl) ?_
  refine r_ga X hS f1_31 dX1_enqueue_130 ?_
  refine lv_iload hx hb dX1_enqueue_133 (lv_at hl 4 rfl) ?_
  refine lv_iload_n hx hb dX1_enqueue_135 rfl (lv_at hl 3 rfl) ?_
  refine z_is X hS hM9 a1_31 r3 hw dX1_enqueue_136 (fun V10 hM11 hw H locs hS => ?_)
  refine lv_aload_n hx hb dX1_enqueue_137 rfl (lv_at hl 0 rfl) ?_
  refine r_ga X hS f1_32 dX1_enqueue_138 ?_
  refine lv_iload hx hb dX1_enqueue_141 (lv_at hl 4 rfl) ?_
  refine z_iconst hx hb dX1_enqueue_143 ?_
  refine z_is X hS hM11 a1_32 (⟨by decide, by decide⟩) hw dX1_enqueue_144 (fun V12 hM13 hw H locs hS => ?_)
  refine lv_aload_n hx hb dX1_enqueue_145 rfl (lv_at hl 0 rfl) ?_
  refine z_gi X hS f1_34 dX1_enqueue_146 ?_
  refine z_zne (tgt := 161) hx hb (hM13 34 0) hw dX1_enqueue_149 (by decide) (fun hc hw => ?_) (fun hc hw => ?_)
  · refine lv_aload_n hx hb dX1_enqueue_161 rfl (lv_at hl 0 rfl) ?_
    refine r_ga X hS f1_32 dX1_enqueue_162 ?_
    refine lv_aload_n hx hb dX1_enqueue_165 rfl (lv_at hl 0 rfl) ?_
    refine z_gi X hS f1_35 dX1_enqueue_166 ?_
    refine lv_iload hx hb dX1_enqueue_169 (lv_at hl 4 rfl) ?_
    refine z_is X hS hM13 a1_32 r4 hw dX1_enqueue_171 (fun V14 hM15 hw H locs hS => ?_)
    exact m1_enqueue_J172 X hM15 hS (lv_sub hl [0, 4] rfl) r4 hw
  · refine lv_aload_n hx hb dX1_enqueue_152 rfl (lv_at hl 0 rfl) ?_
    refine lv_iload hx hb dX1_enqueue_153 (lv_at hl 4 rfl) ?_
    refine z_pi X hS hM13 f1_34 p1_34 r4 hw dX1_enqueue_155 (fun V16 hM17 hw H locs hS => ?_)
    refine lv_goto (tgt := 172) hx hb dX1_enqueue_158 (by decide) ?_
    exact m1_enqueue_J172 X hM17 hS (lv_sub hl [0, 4] rfl) r4 hw
theorem m1_enqueue_J97 {a1 : Int} {a2 : Int} {a3 : Int} {V : Mv} {Z : Le} {Q : Po} {PX : Px} (X : Cx E 0 h0 P0 kc0 ks0 S0 A p l R s m args meth c cX1_enqueue 6 none 3) (hM : inM V) (hS : HS E 0 h0 P0 kc0 ks0 (sbs [29, 30, 31, 32]) A s.heap P (toC V) Z H locs cells slots) (hl : lv_has ls 6 [(0, .ref h0), (1, .int (I3 a1)), (2, .int (I3 a2)), (3, .int (I3 a3))]) (r1 : inR a1) (r2 : inR a2) (r3 : inR a3) (hw : w1_enqueue_J97 a1 a2 a3 V Z Q) : W p l e R s m args below meth c H locs cells slots (MQx below (QT E 0 h0 false P0 kc0 ks0 (sbs [29, 30, 31, 32]) A (QL Q) (PL PX) s) s) (F0 m 97 ls []) := by
  have hx := X.2.1
  have hb := X.2.2.1
  unfold w1_enqueue_J97 at hw
  refine lv_aload_n hx hb dX1_enqueue_97 rfl (lv_at hl 0 rfl) ?_
  refine z_gi X hS f1_33 dX1_enqueue_98 ?_
  refine lv_istore (lv' := [(4, .int (I3 (V 33 0))), (0, .ref h0), (1, .int (I3 a1)), (2, .int (I3 a2)), (3, .int (I3 a3))]) hx hb dX1_enqueue_101 hl (by decide) rfl (fun ls hl => ?_)
  refine lv_aload_n hx hb dX1_enqueue_103 rfl (lv_at hl 1 rfl) ?_
  refine lv_dup hx hb dX1_enqueue_104 rfl ?_
  refine z_gi X hS f1_33 dX1_enqueue_105 ?_
  refine z_iconst hx hb dX1_enqueue_108 ?_
  refine z_add hx hb hw dX1_enqueue_109 (fun h18 hw => ?_)
  refine z_pi X hS hM f1_33 p1_33 h18 hw dX1_enqueue_110 (fun V19 hM20 hw H locs hS => ?_)
  exact m1_enqueue_J113 X hM20 hS (lv_sub hl [1, 2, 3, 4, 0] rfl) r1 r2 r3 (hM 33 0) hw
theorem m1_enqueue {a1 : Int} {a2 : Int} {a3 : Int} {V : Mv} {Z : Le} {Q : Po} {PX : Px} (r1 : inR a1) (r2 : inR a2) (r3 : inR a3) (hM : inM V) (hw : w1_enqueue a1 a2 a3 V Z Q) : MT l S0 E 0 h0 yX1_enqueue cX1_enqueue 6 none 3 false (sbs [29, 30, 31, 32]) [.int (I3 a1), .int (I3 a2), .int (I3 a3)] (toC V) Z (QL Q) (PL PX) := by
  refine mt_of Gk0 (by decide) rfl (Nat.le_of_ble_eq_true rfl) ?_
  intro p e s m below meth c A P ls X hS hl
  have hl : lv_has ls 6 [(0, .ref h0), (1, .int (I3 a1)), (2, .int (I3 a2)), (3, .int (I3 a3))] := hl
  have hx := X.2.1
  have hb := X.2.2.1
  unfold w1_enqueue at hw
  refine lv_aload_n hx hb dX1_enqueue_0 rfl (lv_at hl 0 rfl) ?_
  refine z_gi X hS f1_37 dX1_enqueue_1 ?_
  refine lv_istore (lv' := [(4, .int (I3 (V 37 0))), (0, .ref h0), (1, .int (I3 a1)), (2, .int (I3 a2)), (3, .int (I3 a3))]) hx hb dX1_enqueue_4 hl (by decide) rfl (fun ls hl => ?_)
  refine lv_iload hx hb dX1_enqueue_6 (lv_at hl 0 rfl) ?_
  refine z_zeq (tgt := 25) hx hb (hM 37 0) hw dX1_enqueue_8 (by decide) (fun hc hw => ?_) (fun hc hw => ?_)
  · refine lv_aload_n hx hb dX1_enqueue_25 rfl (lv_at hl 1 rfl) ?_
    refine z_gi X hS f1_33 dX1_enqueue_26 ?_
    refine lv_aload_n hx hb dX1_enqueue_29 rfl (lv_at hl 1 rfl) ?_
    refine r_ga X hS f1_29 dX1_enqueue_30 ?_
    refine z_len X hS a1_29 dX1_enqueue_33 ?_
    refine z_ine (tgt := 97) hx hb (hM 33 0) (z_lenR hS a1_29) hw dX1_enqueue_34 (by decide) (fun hc hw => ?_) (fun hc hw => ?_)
    · exact m1_enqueue_J97 X hM hS (lv_sub hl [1, 2, 3, 4] rfl) r1 r2 r3 hw
    · refine z_iconst hx hb dX1_enqueue_37 ?_
      refine lv_aload_n hx hb dX1_enqueue_38 rfl (lv_at hl 1 rfl) ?_
      refine z_gi X hS f1_33 dX1_enqueue_39 ?_
      refine z_mul hx hb hw dX1_enqueue_42 (fun h21 hw => ?_)
      refine lv_istore (lv' := [(5, .int (I3 (2 * V 33 0))), (4, .int (I3 (V 37 0))), (0, .ref h0), (1, .int (I3 a1)), (2, .int (I3 a2)), (3, .int (I3 a3))]) hx hb dX1_enqueue_43 hl (by decide) rfl (fun ls hl => ?_)
      refine lv_aload_n hx hb dX1_enqueue_45 rfl (lv_at hl 2 rfl) ?_
      refine lv_aload_n hx hb dX1_enqueue_46 rfl (lv_at hl 2 rfl) ?_
      refine r_ga X hS f1_29 dX1_enqueue_47 ?_
      refine lv_iload hx hb dX1_enqueue_50 (lv_at hl 0 rfl) ?_
      refine z_grow X hS hM f1_29 a1_29 rfl rfl (by decide) hw gs1_144 (by omega) hl.1 (Nat.le_of_ble_eq_true rfl) dX1_enqueue_52 dX1_enqueue_55 (fun V22 Z23 hM24 hw P25 H locs c1 s1 hP hS => ?_)
      refine lv_aload_n hx hb dX1_enqueue_58 rfl (lv_at hl 2 rfl) ?_
      refine lv_aload_n hx hb dX1_enqueue_59 rfl (lv_at hl 2 rfl) ?_
      refine r_ga X hS f1_30 dX1_enqueue_60 ?_
      refine lv_iload hx hb dX1_enqueue_63 (lv_at hl 0 rfl) ?_
      refine z_grow X hS hM24 f1_30 a1_30 rfl rfl (by decide) hw gs1_144 (by omega) hl.1 (Nat.le_of_ble_eq_true rfl) dX1_enqueue_65 dX1_enqueue_68 (fun V26 Z27 hM28 hw P29 H locs c1 s1 hP hS => ?_)
      refine lv_aload_n hx hb dX1_enqueue_71 rfl (lv_at hl 2 rfl) ?_
      refine lv_aload_n hx hb dX1_enqueue_72 rfl (lv_at hl 2 rfl) ?_
      refine r_ga X hS f1_31 dX1_enqueue_73 ?_
      refine lv_iload hx hb dX1_enqueue_76 (lv_at hl 0 rfl) ?_
      refine z_grow X hS hM28 f1_31 a1_31 rfl rfl (by decide) hw gs1_144 (by omega) hl.1 (Nat.le_of_ble_eq_true rfl) dX1_enqueue_78 dX1_enqueue_81 (fun V30 Z31 hM32 hw P33 H locs c1 s1 hP hS => ?_)
      refine lv_aload_n hx hb dX1_enqueue_84 rfl (lv_at hl 2 rfl) ?_
      refine lv_aload_n hx hb dX1_enqueue_85 rfl (lv_at hl 2 rfl) ?_
      refine r_ga X hS f1_32 dX1_enqueue_86 ?_
      refine lv_iload hx hb dX1_enqueue_89 (lv_at hl 0 rfl) ?_
      refine z_grow X hS hM32 f1_32 a1_32 rfl rfl (by decide) hw gs1_144 (by omega) hl.1 (Nat.le_of_ble_eq_true rfl) dX1_enqueue_91 dX1_enqueue_94 (fun V34 Z35 hM36 hw P37 H locs c1 s1 hP hS => ?_)
      exact m1_enqueue_J97 X hM36 hS (lv_sub hl [2, 3, 4, 5] rfl) r1 r2 r3 hw
  · refine lv_aload_n hx hb dX1_enqueue_11 rfl (lv_at hl 1 rfl) ?_
    refine lv_aload_n hx hb dX1_enqueue_12 rfl (lv_at hl 1 rfl) ?_
    refine r_ga X hS f1_32 dX1_enqueue_13 ?_
    refine lv_iload hx hb dX1_enqueue_16 (lv_at hl 0 rfl) ?_
    refine z_il X hS a1_32 hw dX1_enqueue_18 (fun hw => ?_)
    refine z_pi X hS hM f1_37 p1_37 (hM 32 (V 37 0)) hw dX1_enqueue_19 (fun V38 hM39 hw H locs hS => ?_)
    refine lv_goto (tgt := 113) hx hb dX1_enqueue_22 (by decide) ?_
    exact m1_enqueue_J113 X hM39 hS (lv_sub hl [1, 2, 3, 4, 0] rfl) r1 r2 r3 (hM 37 0) hw
end WALK
