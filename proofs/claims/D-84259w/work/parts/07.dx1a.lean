set_option maxRecDepth 100000
theorem dX1_init_0 : decode cX1_init 0 = .ok (.aload_n 0, 1) := by decide +kernel
theorem dX1_init_1 : decode cX1_init 1 = .ok (.invokespecial 1, 3) := by decide +kernel
theorem dX1_init_4 : decode cX1_init 4 = .ok (.aload_n 0, 1) := by decide +kernel
theorem dX1_init_5 : decode cX1_init 5 = .ok (.new 7, 3) := by decide +kernel
theorem dX1_init_8 : decode cX1_init 8 = .ok (.dup, 1) := by decide +kernel
theorem dX1_init_9 : decode cX1_init 9 = .ok (.invokespecial 9, 3) := by decide +kernel
theorem dX1_init_12 : decode cX1_init 12 = .ok (.putfield 10, 3) := by decide +kernel
theorem dX1_init_15 : decode cX1_init 15 = .ok (.aload_n 0, 1) := by decide +kernel
theorem dX1_init_16 : decode cX1_init 16 = .ok (.bipush 8, 2) := by decide +kernel
theorem dX1_init_18 : decode cX1_init 18 = .ok (.anewarray 16, 3) := by decide +kernel
theorem dX1_init_21 : decode cX1_init 21 = .ok (.putfield 18, 3) := by decide +kernel
theorem dX1_init_24 : decode cX1_init 24 = .ok (.aload_n 0, 1) := by decide +kernel
theorem dX1_init_25 : decode cX1_init 25 = .ok (.bipush 60, 2) := by decide +kernel
theorem dX1_init_27 : decode cX1_init 27 = .ok (.anewarray 22, 3) := by decide +kernel
theorem dX1_init_30 : decode cX1_init 30 = .ok (.putfield 24, 3) := by decide +kernel
theorem dX1_init_33 : decode cX1_init 33 = .ok (.aload_n 0, 1) := by decide +kernel
theorem dX1_init_34 : decode cX1_init 34 = .ok (.iconst 4, 1) := by decide +kernel
theorem dX1_init_35 : decode cX1_init 35 = .ok (.newarray .int, 2) := by decide +kernel
theorem dX1_init_37 : decode cX1_init 37 = .ok (.putfield 28, 3) := by decide +kernel
theorem dX1_init_40 : decode cX1_init 40 = .ok (.aload_n 0, 1) := by decide +kernel
theorem dX1_init_41 : decode cX1_init 41 = .ok (.iconst 4, 1) := by decide +kernel
theorem dX1_init_42 : decode cX1_init 42 = .ok (.newarray .int, 2) := by decide +kernel
theorem dX1_init_44 : decode cX1_init 44 = .ok (.putfield 32, 3) := by decide +kernel
theorem dX1_init_47 : decode cX1_init 47 = .ok (.aload_n 0, 1) := by decide +kernel
theorem dX1_init_48 : decode cX1_init 48 = .ok (.bipush 9, 2) := by decide +kernel
theorem dX1_init_50 : decode cX1_init 50 = .ok (.newarray .int, 2) := by decide +kernel
theorem dX1_init_52 : decode cX1_init 52 = .ok (.putfield 35, 3) := by decide +kernel
theorem dX1_init_55 : decode cX1_init 55 = .ok (.aload_n 0, 1) := by decide +kernel
theorem dX1_init_56 : decode cX1_init 56 = .ok (.bipush 9, 2) := by decide +kernel
theorem dX1_init_58 : decode cX1_init 58 = .ok (.newarray .int, 2) := by decide +kernel
theorem dX1_init_60 : decode cX1_init 60 = .ok (.putfield 38, 3) := by decide +kernel
theorem dX1_init_63 : decode cX1_init 63 = .ok (.aload_n 0, 1) := by decide +kernel
theorem dX1_init_64 : decode cX1_init 64 = .ok (.bipush 9, 2) := by decide +kernel
theorem dX1_init_66 : decode cX1_init 66 = .ok (.newarray .int, 2) := by decide +kernel
theorem dX1_init_68 : decode cX1_init 68 = .ok (.putfield 41, 3) := by decide +kernel
theorem dX1_init_71 : decode cX1_init 71 = .ok (.aload_n 0, 1) := by decide +kernel
theorem dX1_init_72 : decode cX1_init 72 = .ok (.sipush 512, 3) := by decide +kernel
theorem dX1_init_75 : decode cX1_init 75 = .ok (.newarray .int, 2) := by decide +kernel
theorem dX1_init_77 : decode cX1_init 77 = .ok (.putfield 44, 3) := by decide +kernel
theorem dX1_init_80 : decode cX1_init 80 = .ok (.aload_n 0, 1) := by decide +kernel
theorem dX1_init_81 : decode cX1_init 81 = .ok (.iconst 4, 1) := by decide +kernel
theorem dX1_init_82 : decode cX1_init 82 = .ok (.newarray .int, 2) := by decide +kernel
theorem dX1_init_84 : decode cX1_init 84 = .ok (.putfield 47, 3) := by decide +kernel
theorem dX1_init_87 : decode cX1_init 87 = .ok (.aload_n 0, 1) := by decide +kernel
theorem dX1_init_88 : decode cX1_init 88 = .ok (.iconst 4, 1) := by decide +kernel
theorem dX1_init_89 : decode cX1_init 89 = .ok (.newarray .int, 2) := by decide +kernel
theorem dX1_init_91 : decode cX1_init 91 = .ok (.putfield 50, 3) := by decide +kernel
theorem dX1_init_94 : decode cX1_init 94 = .ok (.aload_n 0, 1) := by decide +kernel
theorem dX1_init_95 : decode cX1_init 95 = .ok (.bipush 31, 2) := by decide +kernel
theorem dX1_init_97 : decode cX1_init 97 = .ok (.newarray .long, 2) := by decide +kernel
theorem dX1_init_99 : decode cX1_init 99 = .ok (.putfield 53, 3) := by decide +kernel
theorem dX1_init_102 : decode cX1_init 102 = .ok (.aload_n 0, 1) := by decide +kernel
theorem dX1_init_103 : decode cX1_init 103 = .ok (.sipush 500, 3) := by decide +kernel
theorem dX1_init_106 : decode cX1_init 106 = .ok (.putfield 57, 3) := by decide +kernel
theorem dX1_init_109 : decode cX1_init 109 = .ok (.aload_n 0, 1) := by decide +kernel
theorem dX1_init_110 : decode cX1_init 110 = .ok (.iconst 2, 1) := by decide +kernel
theorem dX1_init_111 : decode cX1_init 111 = .ok (.putfield 61, 3) := by decide +kernel
theorem dX1_init_114 : decode cX1_init 114 = .ok (.aload_n 0, 1) := by decide +kernel
theorem dX1_init_115 : decode cX1_init 115 = .ok (.iconst (-1), 1) := by decide +kernel
theorem dX1_init_116 : decode cX1_init 116 = .ok (.putfield 64, 3) := by decide +kernel
theorem dX1_init_119 : decode cX1_init 119 = .ok (.return_, 1) := by decide +kernel
theorem dX1_feed_0 : decode cX1_feed 0 = .ok (.aload_n 0, 1) := by decide +kernel
theorem dX1_feed_1 : decode cX1_feed 1 = .ok (.getfield 10, 3) := by decide +kernel
theorem dX1_feed_4 : decode cX1_feed 4 = .ok (.getfield 108, 3) := by decide +kernel
theorem dX1_feed_7 : decode cX1_feed 7 = .ok (.bipush 20, 2) := by decide +kernel
theorem dX1_feed_9 : decode cX1_feed 9 = .ok (.iadd, 1) := by decide +kernel
theorem dX1_feed_10 : decode cX1_feed 10 = .ok (.sipush 400, 3) := by decide +kernel
theorem dX1_feed_13 : decode cX1_feed 13 = .ok (.if_icmp .le 5, 3) := by decide +kernel
theorem dX1_feed_16 : decode cX1_feed 16 = .ok (.iconst (-1), 1) := by decide +kernel
theorem dX1_feed_17 : decode cX1_feed 17 = .ok (.ireturn, 1) := by decide +kernel
theorem dX1_feed_18 : decode cX1_feed 18 = .ok (.aload_n 0, 1) := by decide +kernel
theorem dX1_feed_19 : decode cX1_feed 19 = .ok (.iload_n 1, 1) := by decide +kernel
theorem dX1_feed_20 : decode cX1_feed 20 = .ok (.invokevirtual 111, 3) := by decide +kernel
theorem dX1_feed_23 : decode cX1_feed 23 = .ok (.aload_n 0, 1) := by decide +kernel
theorem dX1_feed_24 : decode cX1_feed 24 = .ok (.iload_n 2, 1) := by decide +kernel
theorem dX1_feed_25 : decode cX1_feed 25 = .ok (.invokevirtual 111, 3) := by decide +kernel
theorem dX1_feed_28 : decode cX1_feed 28 = .ok (.aload_n 0, 1) := by decide +kernel
theorem dX1_feed_29 : decode cX1_feed 29 = .ok (.iload_n 3, 1) := by decide +kernel
theorem dX1_feed_30 : decode cX1_feed 30 = .ok (.invokevirtual 111, 3) := by decide +kernel
theorem dX1_feed_33 : decode cX1_feed 33 = .ok (.aload_n 0, 1) := by decide +kernel
theorem dX1_feed_34 : decode cX1_feed 34 = .ok (.iload 4, 2) := by decide +kernel
theorem dX1_feed_36 : decode cX1_feed 36 = .ok (.invokevirtual 111, 3) := by decide +kernel
theorem dX1_feed_39 : decode cX1_feed 39 = .ok (.aload_n 0, 1) := by decide +kernel
theorem dX1_feed_40 : decode cX1_feed 40 = .ok (.iload 5, 2) := by decide +kernel
theorem dX1_feed_42 : decode cX1_feed 42 = .ok (.invokevirtual 111, 3) := by decide +kernel
theorem dX1_feed_45 : decode cX1_feed 45 = .ok (.aload_n 0, 1) := by decide +kernel
theorem dX1_feed_46 : decode cX1_feed 46 = .ok (.getfield 10, 3) := by decide +kernel
theorem dX1_feed_49 : decode cX1_feed 49 = .ok (.getfield 108, 3) := by decide +kernel
theorem dX1_feed_52 : decode cX1_feed 52 = .ok (.ireturn, 1) := by decide +kernel
theorem dX1_four_0 : decode cX1_four 0 = .ok (.bipush 24, 2) := by decide +kernel
theorem dX1_four_2 : decode cX1_four 2 = .ok (.istore_n 2, 1) := by decide +kernel
theorem dX1_four_3 : decode cX1_four 3 = .ok (.iload_n 2, 1) := by decide +kernel
theorem dX1_four_4 : decode cX1_four 4 = .ok (.ifCond .lt 41, 3) := by decide +kernel
theorem dX1_four_7 : decode cX1_four 7 = .ok (.aload_n 0, 1) := by decide +kernel
theorem dX1_four_8 : decode cX1_four 8 = .ok (.getfield 10, 3) := by decide +kernel
theorem dX1_four_11 : decode cX1_four 11 = .ok (.getfield 104, 3) := by decide +kernel
theorem dX1_four_14 : decode cX1_four 14 = .ok (.aload_n 0, 1) := by decide +kernel
theorem dX1_four_15 : decode cX1_four 15 = .ok (.getfield 10, 3) := by decide +kernel
theorem dX1_four_18 : decode cX1_four 18 = .ok (.getfield 108, 3) := by decide +kernel
theorem dX1_four_21 : decode cX1_four 21 = .ok (.iload_n 1, 1) := by decide +kernel
theorem dX1_four_22 : decode cX1_four 22 = .ok (.iload_n 2, 1) := by decide +kernel
theorem dX1_four_23 : decode cX1_four 23 = .ok (.ishr, 1) := by decide +kernel
theorem dX1_four_24 : decode cX1_four 24 = .ok (.i2b, 1) := by decide +kernel
theorem dX1_four_25 : decode cX1_four 25 = .ok (.bastore, 1) := by decide +kernel
theorem dX1_four_26 : decode cX1_four 26 = .ok (.aload_n 0, 1) := by decide +kernel
theorem dX1_four_27 : decode cX1_four 27 = .ok (.getfield 10, 3) := by decide +kernel
theorem dX1_four_30 : decode cX1_four 30 = .ok (.dup, 1) := by decide +kernel
theorem dX1_four_31 : decode cX1_four 31 = .ok (.getfield 108, 3) := by decide +kernel
theorem dX1_four_34 : decode cX1_four 34 = .ok (.iconst 1, 1) := by decide +kernel
theorem dX1_four_35 : decode cX1_four 35 = .ok (.iadd, 1) := by decide +kernel
theorem dX1_four_36 : decode cX1_four 36 = .ok (.putfield 108, 3) := by decide +kernel
theorem dX1_four_39 : decode cX1_four 39 = .ok (.iinc 2 (-8), 3) := by decide +kernel
theorem dX1_four_42 : decode cX1_four 42 = .ok (.goto (-39), 3) := by decide +kernel
theorem dX1_four_45 : decode cX1_four 45 = .ok (.return_, 1) := by decide +kernel
theorem dX1_end_0 : decode cX1_end 0 = .ok (.iload_n 1, 1) := by decide +kernel
theorem dX1_end_1 : decode cX1_end 1 = .ok (.iconst 0, 1) := by decide +kernel
theorem dX1_end_2 : decode cX1_end 2 = .ok (.aload_n 0, 1) := by decide +kernel
theorem dX1_end_3 : decode cX1_end 3 = .ok (.getfield 10, 3) := by decide +kernel
theorem dX1_end_6 : decode cX1_end 6 = .ok (.getfield 108, 3) := by decide +kernel
theorem dX1_end_9 : decode cX1_end 9 = .ok (.invokestatic 79, 3) := by decide +kernel
theorem dX1_end_12 : decode cX1_end 12 = .ok (.ifCond .ne 5, 3) := by decide +kernel
theorem dX1_end_15 : decode cX1_end 15 = .ok (.iconst 0, 1) := by decide +kernel
theorem dX1_end_16 : decode cX1_end 16 = .ok (.ireturn, 1) := by decide +kernel
theorem dX1_end_17 : decode cX1_end 17 = .ok (.aload_n 0, 1) := by decide +kernel
theorem dX1_end_18 : decode cX1_end 18 = .ok (.getfield 10, 3) := by decide +kernel
theorem dX1_end_21 : decode cX1_end 21 = .ok (.iload_n 1, 1) := by decide +kernel
theorem dX1_end_22 : decode cX1_end 22 = .ok (.putfield 108, 3) := by decide +kernel
theorem dX1_end_25 : decode cX1_end 25 = .ok (.iconst 1, 1) := by decide +kernel
theorem dX1_end_26 : decode cX1_end 26 = .ok (.ireturn, 1) := by decide +kernel
theorem dX1_isIn_0 : decode cX1_isIn 0 = .ok (.iload_n 0, 1) := by decide +kernel
theorem dX1_isIn_1 : decode cX1_isIn 1 = .ok (.iload_n 1, 1) := by decide +kernel
theorem dX1_isIn_2 : decode cX1_isIn 2 = .ok (.if_icmp .lt 12, 3) := by decide +kernel
theorem dX1_isIn_5 : decode cX1_isIn 5 = .ok (.iload_n 0, 1) := by decide +kernel
theorem dX1_isIn_6 : decode cX1_isIn 6 = .ok (.iload_n 2, 1) := by decide +kernel
theorem dX1_isIn_7 : decode cX1_isIn 7 = .ok (.if_icmp .gt 7, 3) := by decide +kernel
theorem dX1_isIn_10 : decode cX1_isIn 10 = .ok (.iconst 1, 1) := by decide +kernel
theorem dX1_isIn_11 : decode cX1_isIn 11 = .ok (.goto 4, 3) := by decide +kernel
theorem dX1_isIn_14 : decode cX1_isIn 14 = .ok (.iconst 0, 1) := by decide +kernel
theorem dX1_isIn_15 : decode cX1_isIn 15 = .ok (.ireturn, 1) := by decide +kernel
theorem dX1_fault_0 : decode cX1_fault 0 = .ok (.aload_n 0, 1) := by decide +kernel
theorem dX1_fault_1 : decode cX1_fault 1 = .ok (.getfield 64, 3) := by decide +kernel
theorem dX1_fault_4 : decode cX1_fault 4 = .ok (.ireturn, 1) := by decide +kernel
theorem dX1_least_0 : decode cX1_least 0 = .ok (.aload_n 0, 1) := by decide +kernel
theorem dX1_least_1 : decode cX1_least 1 = .ok (.getfield 266, 3) := by decide +kernel
theorem dX1_least_4 : decode cX1_least 4 = .ok (.istore_n 1, 1) := by decide +kernel
theorem dX1_least_5 : decode cX1_least 5 = .ok (.aload_n 0, 1) := by decide +kernel
theorem dX1_least_6 : decode cX1_least 6 = .ok (.iconst 0, 1) := by decide +kernel
theorem dX1_least_7 : decode cX1_least 7 = .ok (.putfield 266, 3) := by decide +kernel
theorem dX1_least_10 : decode cX1_least 10 = .ok (.aload_n 0, 1) := by decide +kernel
theorem dX1_least_11 : decode cX1_least 11 = .ok (.getfield 44, 3) := by decide +kernel
theorem dX1_least_14 : decode cX1_least 14 = .ok (.iconst 0, 1) := by decide +kernel
theorem dX1_least_15 : decode cX1_least 15 = .ok (.iconst 0, 1) := by decide +kernel
theorem dX1_least_16 : decode cX1_least 16 = .ok (.iastore, 1) := by decide +kernel
theorem dX1_least_17 : decode cX1_least 17 = .ok (.iconst 1, 1) := by decide +kernel
theorem dX1_least_18 : decode cX1_least 18 = .ok (.istore_n 2, 1) := by decide +kernel
theorem dX1_least_19 : decode cX1_least 19 = .ok (.iload_n 2, 1) := by decide +kernel
theorem dX1_least_20 : decode cX1_least 20 = .ok (.iconst 1, 1) := by decide +kernel
theorem dX1_least_21 : decode cX1_least 21 = .ok (.iload_n 1, 1) := by decide +kernel
theorem dX1_least_22 : decode cX1_least 22 = .ok (.ishl, 1) := by decide +kernel
theorem dX1_least_23 : decode cX1_least 23 = .ok (.if_icmp .ge 132, 3) := by decide +kernel
theorem dX1_least_26 : decode cX1_least 26 = .ok (.iconst 0, 1) := by decide +kernel
theorem dX1_least_27 : decode cX1_least 27 = .ok (.istore_n 3, 1) := by decide +kernel
theorem dX1_least_28 : decode cX1_least 28 = .ok (.iconst 0, 1) := by decide +kernel
theorem dX1_least_29 : decode cX1_least 29 = .ok (.istore 4, 2) := by decide +kernel
theorem dX1_least_31 : decode cX1_least 31 = .ok (.iload 4, 2) := by decide +kernel
theorem dX1_least_33 : decode cX1_least 33 = .ok (.iload_n 1, 1) := by decide +kernel
theorem dX1_least_34 : decode cX1_least 34 = .ok (.if_icmp .ge 33, 3) := by decide +kernel
theorem dX1_least_37 : decode cX1_least 37 = .ok (.iload_n 3, 1) := by decide +kernel
theorem dX1_least_38 : decode cX1_least 38 = .ok (.iload_n 2, 1) := by decide +kernel
theorem dX1_least_39 : decode cX1_least 39 = .ok (.iload 4, 2) := by decide +kernel
theorem dX1_least_41 : decode cX1_least 41 = .ok (.ishr, 1) := by decide +kernel
theorem dX1_least_42 : decode cX1_least 42 = .ok (.iconst 1, 1) := by decide +kernel
theorem dX1_least_43 : decode cX1_least 43 = .ok (.iand, 1) := by decide +kernel
theorem dX1_least_44 : decode cX1_least 44 = .ok (.iconst 1, 1) := by decide +kernel
theorem dX1_least_45 : decode cX1_least 45 = .ok (.if_icmp .ne 13, 3) := by decide +kernel
theorem dX1_least_48 : decode cX1_least 48 = .ok (.aload_n 0, 1) := by decide +kernel
theorem dX1_least_49 : decode cX1_least 49 = .ok (.getfield 35, 3) := by decide +kernel
theorem dX1_least_52 : decode cX1_least 52 = .ok (.iload 4, 2) := by decide +kernel
theorem dX1_least_54 : decode cX1_least 54 = .ok (.iaload, 1) := by decide +kernel
theorem dX1_least_55 : decode cX1_least 55 = .ok (.goto 4, 3) := by decide +kernel
theorem dX1_least_58 : decode cX1_least 58 = .ok (.iconst 0, 1) := by decide +kernel
theorem dX1_least_59 : decode cX1_least 59 = .ok (.iadd, 1) := by decide +kernel
theorem dX1_least_60 : decode cX1_least 60 = .ok (.istore_n 3, 1) := by decide +kernel
theorem dX1_least_61 : decode cX1_least 61 = .ok (.iinc 4 1, 3) := by decide +kernel
theorem dX1_least_64 : decode cX1_least 64 = .ok (.goto (-33), 3) := by decide +kernel
theorem dX1_least_67 : decode cX1_least 67 = .ok (.aload_n 0, 1) := by decide +kernel
theorem dX1_least_68 : decode cX1_least 68 = .ok (.getfield 44, 3) := by decide +kernel
theorem dX1_least_71 : decode cX1_least 71 = .ok (.iload_n 2, 1) := by decide +kernel
theorem dX1_least_72 : decode cX1_least 72 = .ok (.ldc_w 271, 3) := by decide +kernel
theorem dX1_least_75 : decode cX1_least 75 = .ok (.iastore, 1) := by decide +kernel
theorem dX1_least_76 : decode cX1_least 76 = .ok (.iconst 0, 1) := by decide +kernel
theorem dX1_least_77 : decode cX1_least 77 = .ok (.istore 4, 2) := by decide +kernel
theorem dX1_least_79 : decode cX1_least 79 = .ok (.iload 4, 2) := by decide +kernel
theorem dX1_least_81 : decode cX1_least 81 = .ok (.iload_n 1, 1) := by decide +kernel
theorem dX1_least_82 : decode cX1_least 82 = .ok (.if_icmp .ge 67, 3) := by decide +kernel
theorem dX1_least_85 : decode cX1_least 85 = .ok (.iload_n 2, 1) := by decide +kernel
theorem dX1_least_86 : decode cX1_least 86 = .ok (.iload 4, 2) := by decide +kernel
theorem dX1_least_88 : decode cX1_least 88 = .ok (.ishr, 1) := by decide +kernel
theorem dX1_least_89 : decode cX1_least 89 = .ok (.iconst 1, 1) := by decide +kernel
theorem dX1_least_90 : decode cX1_least 90 = .ok (.iand, 1) := by decide +kernel
theorem dX1_least_91 : decode cX1_least 91 = .ok (.iconst 1, 1) := by decide +kernel
theorem dX1_least_92 : decode cX1_least 92 = .ok (.if_icmp .ne 51, 3) := by decide +kernel
theorem dX1_least_95 : decode cX1_least 95 = .ok (.aload_n 0, 1) := by decide +kernel
theorem dX1_least_96 : decode cX1_least 96 = .ok (.getfield 44, 3) := by decide +kernel
theorem dX1_least_99 : decode cX1_least 99 = .ok (.iload_n 2, 1) := by decide +kernel
theorem dX1_least_100 : decode cX1_least 100 = .ok (.aload_n 0, 1) := by decide +kernel
theorem dX1_least_101 : decode cX1_least 101 = .ok (.getfield 44, 3) := by decide +kernel
theorem dX1_least_104 : decode cX1_least 104 = .ok (.iload_n 2, 1) := by decide +kernel
theorem dX1_least_105 : decode cX1_least 105 = .ok (.iaload, 1) := by decide +kernel
theorem dX1_least_106 : decode cX1_least 106 = .ok (.aload_n 0, 1) := by decide +kernel
theorem dX1_least_107 : decode cX1_least 107 = .ok (.getfield 44, 3) := by decide +kernel
theorem dX1_least_110 : decode cX1_least 110 = .ok (.iload_n 2, 1) := by decide +kernel
theorem dX1_least_111 : decode cX1_least 111 = .ok (.iconst 1, 1) := by decide +kernel
theorem dX1_least_112 : decode cX1_least 112 = .ok (.iload 4, 2) := by decide +kernel
theorem dX1_least_114 : decode cX1_least 114 = .ok (.ishl, 1) := by decide +kernel
theorem dX1_least_115 : decode cX1_least 115 = .ok (.ixor, 1) := by decide +kernel
theorem dX1_least_116 : decode cX1_least 116 = .ok (.iaload, 1) := by decide +kernel
theorem dX1_least_117 : decode cX1_least 117 = .ok (.aload_n 0, 1) := by decide +kernel
theorem dX1_least_118 : decode cX1_least 118 = .ok (.getfield 41, 3) := by decide +kernel
theorem dX1_least_121 : decode cX1_least 121 = .ok (.iload 4, 2) := by decide +kernel
theorem dX1_least_123 : decode cX1_least 123 = .ok (.iaload, 1) := by decide +kernel
theorem dX1_least_124 : decode cX1_least 124 = .ok (.iconst 0, 1) := by decide +kernel
theorem dX1_least_125 : decode cX1_least 125 = .ok (.iload_n 3, 1) := by decide +kernel
theorem dX1_least_126 : decode cX1_least 126 = .ok (.aload_n 0, 1) := by decide +kernel
theorem dX1_least_127 : decode cX1_least 127 = .ok (.getfield 38, 3) := by decide +kernel
theorem dX1_least_130 : decode cX1_least 130 = .ok (.iload 4, 2) := by decide +kernel
theorem dX1_least_132 : decode cX1_least 132 = .ok (.iaload, 1) := by decide +kernel
theorem dX1_least_133 : decode cX1_least 133 = .ok (.isub, 1) := by decide +kernel
theorem dX1_least_134 : decode cX1_least 134 = .ok (.invokestatic 183, 3) := by decide +kernel
theorem dX1_least_137 : decode cX1_least 137 = .ok (.imul, 1) := by decide +kernel
theorem dX1_least_138 : decode cX1_least 138 = .ok (.iadd, 1) := by decide +kernel
theorem dX1_least_139 : decode cX1_least 139 = .ok (.invokestatic 177, 3) := by decide +kernel
theorem dX1_least_142 : decode cX1_least 142 = .ok (.iastore, 1) := by decide +kernel
theorem dX1_least_143 : decode cX1_least 143 = .ok (.iinc 4 1, 3) := by decide +kernel
theorem dX1_least_146 : decode cX1_least 146 = .ok (.goto (-67), 3) := by decide +kernel
theorem dX1_least_149 : decode cX1_least 149 = .ok (.iinc 2 1, 3) := by decide +kernel
theorem dX1_least_152 : decode cX1_least 152 = .ok (.goto (-133), 3) := by decide +kernel
theorem dX1_least_155 : decode cX1_least 155 = .ok (.aload_n 0, 1) := by decide +kernel
theorem dX1_least_156 : decode cX1_least 156 = .ok (.getfield 44, 3) := by decide +kernel
theorem dX1_least_159 : decode cX1_least 159 = .ok (.iconst 1, 1) := by decide +kernel
theorem dX1_least_160 : decode cX1_least 160 = .ok (.iload_n 1, 1) := by decide +kernel
theorem dX1_least_161 : decode cX1_least 161 = .ok (.ishl, 1) := by decide +kernel
theorem dX1_least_162 : decode cX1_least 162 = .ok (.iconst 1, 1) := by decide +kernel
theorem dX1_least_163 : decode cX1_least 163 = .ok (.isub, 1) := by decide +kernel
theorem dX1_least_164 : decode cX1_least 164 = .ok (.iaload, 1) := by decide +kernel
theorem dX1_least_165 : decode cX1_least 165 = .ok (.ireturn, 1) := by decide +kernel
theorem dX1_count_0 : decode cX1_count 0 = .ok (.iconst 0, 1) := by decide +kernel
theorem dX1_count_1 : decode cX1_count 1 = .ok (.istore_n 2, 1) := by decide +kernel
theorem dX1_count_2 : decode cX1_count 2 = .ok (.iconst 0, 1) := by decide +kernel
theorem dX1_count_3 : decode cX1_count 3 = .ok (.istore_n 3, 1) := by decide +kernel
theorem dX1_count_4 : decode cX1_count 4 = .ok (.iconst 0, 1) := by decide +kernel
theorem dX1_count_5 : decode cX1_count 5 = .ok (.istore 4, 2) := by decide +kernel
theorem dX1_count_7 : decode cX1_count 7 = .ok (.iload 4, 2) := by decide +kernel
theorem dX1_count_9 : decode cX1_count 9 = .ok (.aload_n 0, 1) := by decide +kernel
theorem dX1_count_10 : decode cX1_count 10 = .ok (.getfield 101, 3) := by decide +kernel
theorem dX1_count_13 : decode cX1_count 13 = .ok (.if_icmp .ge 34, 3) := by decide +kernel
theorem dX1_count_16 : decode cX1_count 16 = .ok (.iload_n 2, 1) := by decide +kernel
theorem dX1_count_17 : decode cX1_count 17 = .ok (.aload_n 0, 1) := by decide +kernel
theorem dX1_count_18 : decode cX1_count 18 = .ok (.getfield 24, 3) := by decide +kernel
theorem dX1_count_21 : decode cX1_count 21 = .ok (.iload 4, 2) := by decide +kernel
theorem dX1_count_23 : decode cX1_count 23 = .ok (.aaload, 1) := by decide +kernel
theorem dX1_count_24 : decode cX1_count 24 = .ok (.aload_n 0, 1) := by decide +kernel
theorem dX1_count_25 : decode cX1_count 25 = .ok (.getfield 207, 3) := by decide +kernel
theorem dX1_count_28 : decode cX1_count 28 = .ok (.invokevirtual 210, 3) := by decide +kernel
theorem dX1_count_31 : decode cX1_count 31 = .ok (.ifCond .eq 7, 3) := by decide +kernel
theorem dX1_count_34 : decode cX1_count 34 = .ok (.iconst 1, 1) := by decide +kernel
theorem dX1_count_35 : decode cX1_count 35 = .ok (.goto 4, 3) := by decide +kernel
theorem dX1_count_38 : decode cX1_count 38 = .ok (.iconst 0, 1) := by decide +kernel
theorem dX1_count_39 : decode cX1_count 39 = .ok (.iadd, 1) := by decide +kernel
theorem dX1_count_40 : decode cX1_count 40 = .ok (.istore_n 2, 1) := by decide +kernel
theorem dX1_count_41 : decode cX1_count 41 = .ok (.iinc 4 1, 3) := by decide +kernel
theorem dX1_count_44 : decode cX1_count 44 = .ok (.goto (-37), 3) := by decide +kernel
theorem dX1_count_47 : decode cX1_count 47 = .ok (.iconst 0, 1) := by decide +kernel
theorem dX1_count_48 : decode cX1_count 48 = .ok (.istore 4, 2) := by decide +kernel
theorem dX1_count_50 : decode cX1_count 50 = .ok (.iload 4, 2) := by decide +kernel
theorem dX1_count_52 : decode cX1_count 52 = .ok (.aload_n 0, 1) := by decide +kernel
theorem dX1_count_53 : decode cX1_count 53 = .ok (.getfield 83, 3) := by decide +kernel
theorem dX1_count_56 : decode cX1_count 56 = .ok (.if_icmp .ge 44, 3) := by decide +kernel
theorem dX1_count_59 : decode cX1_count 59 = .ok (.iload_n 3, 1) := by decide +kernel
theorem dX1_count_60 : decode cX1_count 60 = .ok (.aload_n 0, 1) := by decide +kernel
theorem dX1_count_61 : decode cX1_count 61 = .ok (.getfield 18, 3) := by decide +kernel
theorem dX1_count_64 : decode cX1_count 64 = .ok (.iload 4, 2) := by decide +kernel
theorem dX1_count_66 : decode cX1_count 66 = .ok (.aaload, 1) := by decide +kernel
theorem dX1_count_67 : decode cX1_count 67 = .ok (.invokevirtual 94, 3) := by decide +kernel
theorem dX1_count_70 : decode cX1_count 70 = .ok (.ifCond .eq 21, 3) := by decide +kernel
theorem dX1_count_73 : decode cX1_count 73 = .ok (.aload_n 0, 1) := by decide +kernel
theorem dX1_count_74 : decode cX1_count 74 = .ok (.aload_n 0, 1) := by decide +kernel
theorem dX1_count_75 : decode cX1_count 75 = .ok (.getfield 18, 3) := by decide +kernel
theorem dX1_count_78 : decode cX1_count 78 = .ok (.iload 4, 2) := by decide +kernel
theorem dX1_count_80 : decode cX1_count 80 = .ok (.aaload, 1) := by decide +kernel
theorem dX1_count_81 : decode cX1_count 81 = .ok (.aload_n 0, 1) := by decide +kernel
theorem dX1_count_82 : decode cX1_count 82 = .ok (.getfield 149, 3) := by decide +kernel
theorem dX1_count_85 : decode cX1_count 85 = .ok (.invokevirtual 197, 3) := by decide +kernel
theorem dX1_count_88 : decode cX1_count 88 = .ok (.goto 4, 3) := by decide +kernel
theorem dX1_count_91 : decode cX1_count 91 = .ok (.iconst 0, 1) := by decide +kernel
theorem dX1_count_92 : decode cX1_count 92 = .ok (.iadd, 1) := by decide +kernel
theorem dX1_count_93 : decode cX1_count 93 = .ok (.istore_n 3, 1) := by decide +kernel
theorem dX1_count_94 : decode cX1_count 94 = .ok (.iinc 4 1, 3) := by decide +kernel
theorem dX1_count_97 : decode cX1_count 97 = .ok (.goto (-47), 3) := by decide +kernel
theorem dX1_count_100 : decode cX1_count 100 = .ok (.iload_n 1, 1) := by decide +kernel
theorem dX1_count_101 : decode cX1_count 101 = .ok (.tableswitch 81 0 7 #[47, 52, 57, 62, 67, 72, 74, 79], 47) := by decide +kernel
theorem dX1_count_148 : decode cX1_count 148 = .ok (.aload_n 0, 1) := by decide +kernel
theorem dX1_count_149 : decode cX1_count 149 = .ok (.getfield 83, 3) := by decide +kernel
theorem dX1_count_152 : decode cX1_count 152 = .ok (.ireturn, 1) := by decide +kernel
theorem dX1_count_153 : decode cX1_count 153 = .ok (.aload_n 0, 1) := by decide +kernel
theorem dX1_count_154 : decode cX1_count 154 = .ok (.getfield 149, 3) := by decide +kernel
theorem dX1_count_157 : decode cX1_count 157 = .ok (.ireturn, 1) := by decide +kernel
theorem dX1_count_158 : decode cX1_count 158 = .ok (.aload_n 0, 1) := by decide +kernel
theorem dX1_count_159 : decode cX1_count 159 = .ok (.getfield 155, 3) := by decide +kernel
theorem dX1_count_162 : decode cX1_count 162 = .ok (.ireturn, 1) := by decide +kernel
theorem dX1_count_163 : decode cX1_count 163 = .ok (.aload_n 0, 1) := by decide +kernel
theorem dX1_count_164 : decode cX1_count 164 = .ok (.getfield 207, 3) := by decide +kernel
theorem dX1_count_167 : decode cX1_count 167 = .ok (.ireturn, 1) := by decide +kernel
theorem dX1_count_168 : decode cX1_count 168 = .ok (.aload_n 0, 1) := by decide +kernel
theorem dX1_count_169 : decode cX1_count 169 = .ok (.getfield 101, 3) := by decide +kernel
theorem dX1_count_172 : decode cX1_count 172 = .ok (.ireturn, 1) := by decide +kernel
theorem dX1_count_173 : decode cX1_count 173 = .ok (.iload_n 2, 1) := by decide +kernel
theorem dX1_count_174 : decode cX1_count 174 = .ok (.ireturn, 1) := by decide +kernel
theorem dX1_count_175 : decode cX1_count 175 = .ok (.aload_n 0, 1) := by decide +kernel
theorem dX1_count_176 : decode cX1_count 176 = .ok (.getfield 266, 3) := by decide +kernel
theorem dX1_count_179 : decode cX1_count 179 = .ok (.ireturn, 1) := by decide +kernel
theorem dX1_count_180 : decode cX1_count 180 = .ok (.iload_n 3, 1) := by decide +kernel
theorem dX1_count_181 : decode cX1_count 181 = .ok (.ireturn, 1) := by decide +kernel
theorem dX1_count_182 : decode cX1_count 182 = .ok (.iconst (-1), 1) := by decide +kernel
theorem dX1_count_183 : decode cX1_count 183 = .ok (.ireturn, 1) := by decide +kernel
theorem dX1_flowOf_0 : decode cX1_flowOf 0 = .ok (.iconst 0, 1) := by decide +kernel
theorem dX1_flowOf_1 : decode cX1_flowOf 1 = .ok (.istore_n 3, 1) := by decide +kernel
theorem dX1_flowOf_2 : decode cX1_flowOf 2 = .ok (.aload_n 1, 1) := by decide +kernel
theorem dX1_flowOf_3 : decode cX1_flowOf 3 = .ok (.invokevirtual 186, 3) := by decide +kernel
theorem dX1_flowOf_6 : decode cX1_flowOf 6 = .ok (.iconst 1, 1) := by decide +kernel
theorem dX1_flowOf_7 : decode cX1_flowOf 7 = .ok (.isub, 1) := by decide +kernel
theorem dX1_flowOf_8 : decode cX1_flowOf 8 = .ok (.istore 4, 2) := by decide +kernel
theorem dX1_flowOf_10 : decode cX1_flowOf 10 = .ok (.iload 4, 2) := by decide +kernel
theorem dX1_flowOf_12 : decode cX1_flowOf 12 = .ok (.ifCond .lt 75, 3) := by decide +kernel
theorem dX1_flowOf_15 : decode cX1_flowOf 15 = .ok (.iload_n 3, 1) := by decide +kernel
theorem dX1_flowOf_16 : decode cX1_flowOf 16 = .ok (.aload_n 0, 1) := by decide +kernel
theorem dX1_flowOf_17 : decode cX1_flowOf 17 = .ok (.aload_n 1, 1) := by decide +kernel
theorem dX1_flowOf_18 : decode cX1_flowOf 18 = .ok (.iload 4, 2) := by decide +kernel
theorem dX1_flowOf_20 : decode cX1_flowOf 20 = .ok (.iload_n 2, 1) := by decide +kernel
theorem dX1_flowOf_21 : decode cX1_flowOf 21 = .ok (.invokevirtual 190, 3) := by decide +kernel
theorem dX1_flowOf_24 : decode cX1_flowOf 24 = .ok (.iadd, 1) := by decide +kernel
theorem dX1_flowOf_25 : decode cX1_flowOf 25 = .ok (.istore_n 3, 1) := by decide +kernel
theorem dX1_flowOf_26 : decode cX1_flowOf 26 = .ok (.iload 4, 2) := by decide +kernel
theorem dX1_flowOf_28 : decode cX1_flowOf 28 = .ok (.ifCond .ne 6, 3) := by decide +kernel
theorem dX1_flowOf_31 : decode cX1_flowOf 31 = .ok (.goto 56, 3) := by decide +kernel
theorem dX1_flowOf_34 : decode cX1_flowOf 34 = .ok (.aload_n 1, 1) := by decide +kernel
theorem dX1_flowOf_35 : decode cX1_flowOf 35 = .ok (.getfield 125, 3) := by decide +kernel
theorem dX1_flowOf_38 : decode cX1_flowOf 38 = .ok (.iload 4, 2) := by decide +kernel
theorem dX1_flowOf_40 : decode cX1_flowOf 40 = .ok (.aaload, 1) := by decide +kernel
theorem dX1_flowOf_41 : decode cX1_flowOf 41 = .ok (.getfield 129, 3) := by decide +kernel
theorem dX1_flowOf_44 : decode cX1_flowOf 44 = .ok (.aload_n 1, 1) := by decide +kernel
theorem dX1_flowOf_45 : decode cX1_flowOf 45 = .ok (.getfield 125, 3) := by decide +kernel
theorem dX1_flowOf_48 : decode cX1_flowOf 48 = .ok (.iload 4, 2) := by decide +kernel
theorem dX1_flowOf_50 : decode cX1_flowOf 50 = .ok (.iconst 1, 1) := by decide +kernel
theorem dX1_flowOf_51 : decode cX1_flowOf 51 = .ok (.isub, 1) := by decide +kernel
theorem dX1_flowOf_52 : decode cX1_flowOf 52 = .ok (.aaload, 1) := by decide +kernel
theorem dX1_flowOf_53 : decode cX1_flowOf 53 = .ok (.getfield 129, 3) := by decide +kernel
theorem dX1_flowOf_56 : decode cX1_flowOf 56 = .ok (.isub, 1) := by decide +kernel
theorem dX1_flowOf_57 : decode cX1_flowOf 57 = .ok (.istore 5, 2) := by decide +kernel
theorem dX1_flowOf_59 : decode cX1_flowOf 59 = .ok (.iload 5, 2) := by decide +kernel
theorem dX1_flowOf_61 : decode cX1_flowOf 61 = .ok (.ifCond .eq 10, 3) := by decide +kernel
theorem dX1_flowOf_64 : decode cX1_flowOf 64 = .ok (.iload 5, 2) := by decide +kernel
theorem dX1_flowOf_66 : decode cX1_flowOf 66 = .ok (.bipush 20, 2) := by decide +kernel
theorem dX1_flowOf_68 : decode cX1_flowOf 68 = .ok (.if_icmp .le 13, 3) := by decide +kernel
theorem dX1_flowOf_71 : decode cX1_flowOf 71 = .ok (.iload_n 3, 1) := by decide +kernel
theorem dX1_flowOf_72 : decode cX1_flowOf 72 = .ok (.iload_n 3, 1) := by decide +kernel
theorem dX1_flowOf_73 : decode cX1_flowOf 73 = .ok (.bipush 99, 2) := by decide +kernel
theorem dX1_flowOf_75 : decode cX1_flowOf 75 = .ok (.iadd, 1) := by decide +kernel
theorem dX1_flowOf_76 : decode cX1_flowOf 76 = .ok (.bipush 100, 2) := by decide +kernel
theorem dX1_flowOf_78 : decode cX1_flowOf 78 = .ok (.idiv, 1) := by decide +kernel
theorem dX1_flowOf_79 : decode cX1_flowOf 79 = .ok (.isub, 1) := by decide +kernel
theorem dX1_flowOf_80 : decode cX1_flowOf 80 = .ok (.istore_n 3, 1) := by decide +kernel
theorem dX1_flowOf_81 : decode cX1_flowOf 81 = .ok (.iinc 4 (-1), 3) := by decide +kernel
theorem dX1_flowOf_84 : decode cX1_flowOf 84 = .ok (.goto (-74), 3) := by decide +kernel
theorem dX1_flowOf_87 : decode cX1_flowOf 87 = .ok (.iload_n 3, 1) := by decide +kernel
theorem dX1_flowOf_88 : decode cX1_flowOf 88 = .ok (.ireturn, 1) := by decide +kernel
theorem dX1_seepOf_0 : decode cX1_seepOf 0 = .ok (.aload_n 0, 1) := by decide +kernel
theorem dX1_seepOf_1 : decode cX1_seepOf 1 = .ok (.getfield 57, 3) := by decide +kernel
theorem dX1_seepOf_4 : decode cX1_seepOf 4 = .ok (.aload_n 0, 1) := by decide +kernel
theorem dX1_seepOf_5 : decode cX1_seepOf 5 = .ok (.getfield 61, 3) := by decide +kernel
theorem dX1_seepOf_8 : decode cX1_seepOf 8 = .ok (.aload_n 1, 1) := by decide +kernel
theorem dX1_seepOf_9 : decode cX1_seepOf 9 = .ok (.getfield 125, 3) := by decide +kernel
theorem dX1_seepOf_12 : decode cX1_seepOf 12 = .ok (.iload_n 2, 1) := by decide +kernel
theorem dX1_seepOf_13 : decode cX1_seepOf 13 = .ok (.aaload, 1) := by decide +kernel
theorem dX1_seepOf_14 : decode cX1_seepOf 14 = .ok (.getfield 170, 3) := by decide +kernel
theorem dX1_seepOf_17 : decode cX1_seepOf 17 = .ok (.imul, 1) := by decide +kernel
theorem dX1_seepOf_18 : decode cX1_seepOf 18 = .ok (.iadd, 1) := by decide +kernel
theorem dX1_seepOf_19 : decode cX1_seepOf 19 = .ok (.istore 4, 2) := by decide +kernel
theorem dX1_seepOf_21 : decode cX1_seepOf 21 = .ok (.iconst 0, 1) := by decide +kernel
theorem dX1_seepOf_22 : decode cX1_seepOf 22 = .ok (.istore 5, 2) := by decide +kernel
theorem dX1_seepOf_24 : decode cX1_seepOf 24 = .ok (.iload 5, 2) := by decide +kernel
theorem dX1_seepOf_26 : decode cX1_seepOf 26 = .ok (.aload_n 0, 1) := by decide +kernel
theorem dX1_seepOf_27 : decode cX1_seepOf 27 = .ok (.getfield 83, 3) := by decide +kernel
theorem dX1_seepOf_30 : decode cX1_seepOf 30 = .ok (.if_icmp .ge 72, 3) := by decide +kernel
theorem dX1_seepOf_33 : decode cX1_seepOf 33 = .ok (.aload_n 0, 1) := by decide +kernel
theorem dX1_seepOf_34 : decode cX1_seepOf 34 = .ok (.getfield 18, 3) := by decide +kernel
theorem dX1_seepOf_37 : decode cX1_seepOf 37 = .ok (.iload 5, 2) := by decide +kernel
theorem dX1_seepOf_39 : decode cX1_seepOf 39 = .ok (.aaload, 1) := by decide +kernel
theorem dX1_seepOf_40 : decode cX1_seepOf 40 = .ok (.aload_n 1, 1) := by decide +kernel
theorem dX1_seepOf_41 : decode cX1_seepOf 41 = .ok (.if_acmp .eq 55, 3) := by decide +kernel
theorem dX1_seepOf_44 : decode cX1_seepOf 44 = .ok (.aload_n 0, 1) := by decide +kernel
theorem dX1_seepOf_45 : decode cX1_seepOf 45 = .ok (.getfield 18, 3) := by decide +kernel
theorem dX1_seepOf_48 : decode cX1_seepOf 48 = .ok (.iload 5, 2) := by decide +kernel
theorem dX1_seepOf_50 : decode cX1_seepOf 50 = .ok (.aaload, 1) := by decide +kernel
theorem dX1_seepOf_51 : decode cX1_seepOf 51 = .ok (.invokevirtual 94, 3) := by decide +kernel
theorem dX1_seepOf_54 : decode cX1_seepOf 54 = .ok (.ifCond .eq 42, 3) := by decide +kernel
theorem dX1_seepOf_57 : decode cX1_seepOf 57 = .ok (.aload_n 0, 1) := by decide +kernel
theorem dX1_seepOf_58 : decode cX1_seepOf 58 = .ok (.getfield 18, 3) := by decide +kernel
theorem dX1_seepOf_61 : decode cX1_seepOf 61 = .ok (.iload 5, 2) := by decide +kernel
theorem dX1_seepOf_63 : decode cX1_seepOf 63 = .ok (.aaload, 1) := by decide +kernel
theorem dX1_seepOf_64 : decode cX1_seepOf 64 = .ok (.getfield 152, 3) := by decide +kernel
theorem dX1_seepOf_67 : decode cX1_seepOf 67 = .ok (.iload_n 3, 1) := by decide +kernel
theorem dX1_seepOf_68 : decode cX1_seepOf 68 = .ok (.if_icmp .ge 28, 3) := by decide +kernel
theorem dX1_seepOf_71 : decode cX1_seepOf 71 = .ok (.iload 4, 2) := by decide +kernel
theorem dX1_seepOf_73 : decode cX1_seepOf 73 = .ok (.aload_n 0, 1) := by decide +kernel
theorem dX1_seepOf_74 : decode cX1_seepOf 74 = .ok (.getfield 18, 3) := by decide +kernel
theorem dX1_seepOf_77 : decode cX1_seepOf 77 = .ok (.iload 5, 2) := by decide +kernel
theorem dX1_seepOf_79 : decode cX1_seepOf 79 = .ok (.aaload, 1) := by decide +kernel
theorem dX1_seepOf_80 : decode cX1_seepOf 80 = .ok (.aload_n 1, 1) := by decide +kernel
theorem dX1_seepOf_81 : decode cX1_seepOf 81 = .ok (.getfield 125, 3) := by decide +kernel
theorem dX1_seepOf_84 : decode cX1_seepOf 84 = .ok (.iload_n 2, 1) := by decide +kernel
theorem dX1_seepOf_85 : decode cX1_seepOf 85 = .ok (.aaload, 1) := by decide +kernel
theorem dX1_seepOf_86 : decode cX1_seepOf 86 = .ok (.aload_n 0, 1) := by decide +kernel
theorem dX1_seepOf_87 : decode cX1_seepOf 87 = .ok (.getfield 155, 3) := by decide +kernel
theorem dX1_seepOf_90 : decode cX1_seepOf 90 = .ok (.invokevirtual 173, 3) := by decide +kernel
theorem dX1_seepOf_93 : decode cX1_seepOf 93 = .ok (.isub, 1) := by decide +kernel
theorem dX1_seepOf_94 : decode cX1_seepOf 94 = .ok (.istore 4, 2) := by decide +kernel
theorem dX1_seepOf_96 : decode cX1_seepOf 96 = .ok (.iinc 5 1, 3) := by decide +kernel
theorem dX1_seepOf_99 : decode cX1_seepOf 99 = .ok (.goto (-75), 3) := by decide +kernel
theorem dX1_seepOf_102 : decode cX1_seepOf 102 = .ok (.iconst 0, 1) := by decide +kernel
theorem dX1_seepOf_103 : decode cX1_seepOf 103 = .ok (.bipush 50, 2) := by decide +kernel
theorem dX1_seepOf_105 : decode cX1_seepOf 105 = .ok (.iload 4, 2) := by decide +kernel
theorem dX1_seepOf_107 : decode cX1_seepOf 107 = .ok (.aload_n 1, 1) := by decide +kernel
theorem dX1_seepOf_108 : decode cX1_seepOf 108 = .ok (.getfield 125, 3) := by decide +kernel
theorem dX1_seepOf_111 : decode cX1_seepOf 111 = .ok (.iload_n 2, 1) := by decide +kernel
theorem dX1_seepOf_112 : decode cX1_seepOf 112 = .ok (.aaload, 1) := by decide +kernel
theorem dX1_seepOf_113 : decode cX1_seepOf 113 = .ok (.getfield 129, 3) := by decide +kernel
theorem dX1_seepOf_116 : decode cX1_seepOf 116 = .ok (.isub, 1) := by decide +kernel
theorem dX1_seepOf_117 : decode cX1_seepOf 117 = .ok (.bipush 10, 2) := by decide +kernel
theorem dX1_seepOf_119 : decode cX1_seepOf 119 = .ok (.idiv, 1) := by decide +kernel
theorem dX1_seepOf_120 : decode cX1_seepOf 120 = .ok (.invokestatic 177, 3) := by decide +kernel
theorem dX1_seepOf_123 : decode cX1_seepOf 123 = .ok (.invokestatic 183, 3) := by decide +kernel
theorem dX1_seepOf_126 : decode cX1_seepOf 126 = .ok (.ireturn, 1) := by decide +kernel
theorem dX1_ground_0 : decode cX1_ground 0 = .ok (.iload_n 1, 1) := by decide +kernel
theorem dX1_ground_1 : decode cX1_ground 1 = .ok (.iconst 0, 1) := by decide +kernel
theorem dX1_ground_2 : decode cX1_ground 2 = .ok (.sipush 2000, 3) := by decide +kernel
theorem dX1_ground_5 : decode cX1_ground 5 = .ok (.invokestatic 79, 3) := by decide +kernel
theorem dX1_ground_8 : decode cX1_ground 8 = .ok (.ifCond .eq 17, 3) := by decide +kernel
theorem dX1_ground_11 : decode cX1_ground 11 = .ok (.iload_n 2, 1) := by decide +kernel
theorem dX1_ground_12 : decode cX1_ground 12 = .ok (.iconst 0, 1) := by decide +kernel
theorem dX1_ground_13 : decode cX1_ground 13 = .ok (.bipush 20, 2) := by decide +kernel
theorem dX1_ground_15 : decode cX1_ground 15 = .ok (.invokestatic 79, 3) := by decide +kernel
theorem dX1_ground_18 : decode cX1_ground 18 = .ok (.ifCond .eq 7, 3) := by decide +kernel
theorem dX1_ground_21 : decode cX1_ground 21 = .ok (.iconst 1, 1) := by decide +kernel
theorem dX1_ground_22 : decode cX1_ground 22 = .ok (.goto 4, 3) := by decide +kernel
theorem dX1_ground_25 : decode cX1_ground 25 = .ok (.iconst 0, 1) := by decide +kernel
theorem dX1_ground_26 : decode cX1_ground 26 = .ok (.invokestatic 115, 3) := by decide +kernel
theorem dX1_ground_29 : decode cX1_ground 29 = .ok (.aload_n 0, 1) := by decide +kernel
theorem dX1_ground_30 : decode cX1_ground 30 = .ok (.iload_n 1, 1) := by decide +kernel
theorem dX1_ground_31 : decode cX1_ground 31 = .ok (.putfield 57, 3) := by decide +kernel
theorem dX1_ground_34 : decode cX1_ground 34 = .ok (.aload_n 0, 1) := by decide +kernel
theorem dX1_ground_35 : decode cX1_ground 35 = .ok (.iload_n 2, 1) := by decide +kernel
theorem dX1_ground_36 : decode cX1_ground 36 = .ok (.putfield 61, 3) := by decide +kernel
theorem dX1_ground_39 : decode cX1_ground 39 = .ok (.return_, 1) := by decide +kernel
theorem dX1_must_0 : decode cX1_must 0 = .ok (.iload_n 0, 1) := by decide +kernel
theorem dX1_must_1 : decode cX1_must 1 = .ok (.ifCond .ne 11, 3) := by decide +kernel
theorem dX1_must_4 : decode cX1_must 4 = .ok (.new 67, 3) := by decide +kernel
theorem dX1_must_7 : decode cX1_must 7 = .ok (.dup, 1) := by decide +kernel
theorem dX1_must_8 : decode cX1_must 8 = .ok (.invokespecial 69, 3) := by decide +kernel
theorem dX1_must_11 : decode cX1_must 11 = .ok (.athrow, 1) := by decide +kernel
theorem dX1_must_12 : decode cX1_must 12 = .ok (.return_, 1) := by decide +kernel
theorem dX1_channel_0 : decode cX1_channel 0 = .ok (.aload_n 0, 1) := by decide +kernel
theorem dX1_channel_1 : decode cX1_channel 1 = .ok (.getfield 83, 3) := by decide +kernel
theorem dX1_channel_4 : decode cX1_channel 4 = .ok (.bipush 8, 2) := by decide +kernel
theorem dX1_channel_6 : decode cX1_channel 6 = .ok (.if_icmp .ge 7, 3) := by decide +kernel
theorem dX1_channel_9 : decode cX1_channel 9 = .ok (.iconst 1, 1) := by decide +kernel
theorem dX1_channel_10 : decode cX1_channel 10 = .ok (.goto 4, 3) := by decide +kernel
theorem dX1_channel_13 : decode cX1_channel 13 = .ok (.iconst 0, 1) := by decide +kernel
theorem dX1_channel_14 : decode cX1_channel 14 = .ok (.invokestatic 118, 3) := by decide +kernel
theorem dX1_channel_17 : decode cX1_channel 17 = .ok (.aload_n 0, 1) := by decide +kernel
theorem dX1_channel_18 : decode cX1_channel 18 = .ok (.getfield 18, 3) := by decide +kernel
theorem dX1_channel_21 : decode cX1_channel 21 = .ok (.aload_n 0, 1) := by decide +kernel
theorem dX1_channel_22 : decode cX1_channel 22 = .ok (.getfield 83, 3) := by decide +kernel
theorem dX1_channel_25 : decode cX1_channel 25 = .ok (.new 16, 3) := by decide +kernel
theorem dX1_channel_28 : decode cX1_channel 28 = .ok (.dup, 1) := by decide +kernel
theorem dX1_channel_29 : decode cX1_channel 29 = .ok (.invokespecial 121, 3) := by decide +kernel
theorem dX1_channel_32 : decode cX1_channel 32 = .ok (.aastore, 1) := by decide +kernel
theorem dX1_channel_33 : decode cX1_channel 33 = .ok (.aload_n 0, 1) := by decide +kernel
theorem dX1_channel_34 : decode cX1_channel 34 = .ok (.dup, 1) := by decide +kernel
theorem dX1_channel_35 : decode cX1_channel 35 = .ok (.getfield 83, 3) := by decide +kernel
theorem dX1_channel_38 : decode cX1_channel 38 = .ok (.iconst 1, 1) := by decide +kernel
theorem dX1_channel_39 : decode cX1_channel 39 = .ok (.iadd, 1) := by decide +kernel
theorem dX1_channel_40 : decode cX1_channel 40 = .ok (.putfield 83, 3) := by decide +kernel
theorem dX1_channel_43 : decode cX1_channel 43 = .ok (.aload_n 0, 1) := by decide +kernel
theorem dX1_channel_44 : decode cX1_channel 44 = .ok (.getfield 83, 3) := by decide +kernel
theorem dX1_channel_47 : decode cX1_channel 47 = .ok (.iconst 1, 1) := by decide +kernel
theorem dX1_channel_48 : decode cX1_channel 48 = .ok (.isub, 1) := by decide +kernel
theorem dX1_channel_49 : decode cX1_channel 49 = .ok (.ireturn, 1) := by decide +kernel
theorem dX1_mayBe_0 : decode cX1_mayBe 0 = .ok (.iload_n 0, 1) := by decide +kernel
theorem dX1_mayBe_1 : decode cX1_mayBe 1 = .ok (.ifCond .ne 11, 3) := by decide +kernel
theorem dX1_mayBe_4 : decode cX1_mayBe 4 = .ok (.new 70, 3) := by decide +kernel
theorem dX1_mayBe_7 : decode cX1_mayBe 7 = .ok (.dup, 1) := by decide +kernel
theorem dX1_mayBe_8 : decode cX1_mayBe 8 = .ok (.invokespecial 72, 3) := by decide +kernel
theorem dX1_mayBe_11 : decode cX1_mayBe 11 = .ok (.athrow, 1) := by decide +kernel
theorem dX1_mayBe_12 : decode cX1_mayBe 12 = .ok (.return_, 1) := by decide +kernel
theorem dX1_well_0 : decode cX1_well 0 = .ok (.aload_n 0, 1) := by decide +kernel
theorem dX1_well_1 : decode cX1_well 1 = .ok (.iload_n 1, 1) := by decide +kernel
theorem dX1_well_2 : decode cX1_well 2 = .ok (.invokevirtual 90, 3) := by decide +kernel
theorem dX1_well_5 : decode cX1_well 5 = .ok (.astore 5, 2) := by decide +kernel
theorem dX1_well_7 : decode cX1_well 7 = .ok (.aload 5, 2) := by decide +kernel
theorem dX1_well_9 : decode cX1_well 9 = .ok (.invokevirtual 94, 3) := by decide +kernel
theorem dX1_well_12 : decode cX1_well 12 = .ok (.ifCond .ne 7, 3) := by decide +kernel
theorem dX1_well_15 : decode cX1_well 15 = .ok (.iconst 1, 1) := by decide +kernel
theorem dX1_well_16 : decode cX1_well 16 = .ok (.goto 4, 3) := by decide +kernel
theorem dX1_well_19 : decode cX1_well 19 = .ok (.iconst 0, 1) := by decide +kernel
theorem dX1_well_20 : decode cX1_well 20 = .ok (.invokestatic 98, 3) := by decide +kernel
theorem dX1_well_23 : decode cX1_well 23 = .ok (.iload_n 2, 1) := by decide +kernel
theorem dX1_well_24 : decode cX1_well 24 = .ok (.iconst 0, 1) := by decide +kernel
theorem dX1_well_25 : decode cX1_well 25 = .ok (.bipush 100, 2) := by decide +kernel
theorem dX1_well_27 : decode cX1_well 27 = .ok (.invokestatic 79, 3) := by decide +kernel
theorem dX1_well_30 : decode cX1_well 30 = .ok (.ifCond .eq 58, 3) := by decide +kernel
theorem dX1_well_33 : decode cX1_well 33 = .ok (.iload_n 3, 1) := by decide +kernel
theorem dX1_well_34 : decode cX1_well 34 = .ok (.iconst 0, 1) := by decide +kernel
theorem dX1_well_35 : decode cX1_well 35 = .ok (.bipush 100, 2) := by decide +kernel
theorem dX1_well_37 : decode cX1_well 37 = .ok (.invokestatic 79, 3) := by decide +kernel
theorem dX1_well_40 : decode cX1_well 40 = .ok (.ifCond .eq 48, 3) := by decide +kernel
theorem dX1_well_43 : decode cX1_well 43 = .ok (.iload 4, 2) := by decide +kernel
theorem dX1_well_45 : decode cX1_well 45 = .ok (.iconst 0, 1) := by decide +kernel
theorem dX1_well_46 : decode cX1_well 46 = .ok (.sipush 1000, 3) := by decide +kernel
theorem dX1_well_49 : decode cX1_well 49 = .ok (.invokestatic 79, 3) := by decide +kernel
theorem dX1_well_52 : decode cX1_well 52 = .ok (.ifCond .eq 36, 3) := by decide +kernel
theorem dX1_well_55 : decode cX1_well 55 = .ok (.aload 5, 2) := by decide +kernel
theorem dX1_well_57 : decode cX1_well 57 = .ok (.getfield 122, 3) := by decide +kernel
theorem dX1_well_60 : decode cX1_well 60 = .ok (.ifCond .eq 24, 3) := by decide +kernel
theorem dX1_well_63 : decode cX1_well 63 = .ok (.iload 4, 2) := by decide +kernel
theorem dX1_well_65 : decode cX1_well 65 = .ok (.aload 5, 2) := by decide +kernel
theorem dX1_well_67 : decode cX1_well 67 = .ok (.getfield 125, 3) := by decide +kernel
theorem dX1_well_70 : decode cX1_well 70 = .ok (.aload 5, 2) := by decide +kernel
theorem dX1_well_72 : decode cX1_well 72 = .ok (.getfield 122, 3) := by decide +kernel
theorem dX1_well_75 : decode cX1_well 75 = .ok (.iconst 1, 1) := by decide +kernel
theorem dX1_well_76 : decode cX1_well 76 = .ok (.isub, 1) := by decide +kernel
theorem dX1_well_77 : decode cX1_well 77 = .ok (.aaload, 1) := by decide +kernel
theorem dX1_well_78 : decode cX1_well 78 = .ok (.getfield 129, 3) := by decide +kernel
theorem dX1_well_81 : decode cX1_well 81 = .ok (.if_icmp .lt 7, 3) := by decide +kernel
theorem dX1_well_84 : decode cX1_well 84 = .ok (.iconst 1, 1) := by decide +kernel
theorem dX1_well_85 : decode cX1_well 85 = .ok (.goto 4, 3) := by decide +kernel
theorem dX1_well_88 : decode cX1_well 88 = .ok (.iconst 0, 1) := by decide +kernel
theorem dX1_well_89 : decode cX1_well 89 = .ok (.invokestatic 115, 3) := by decide +kernel
theorem dX1_well_92 : decode cX1_well 92 = .ok (.aload 5, 2) := by decide +kernel
theorem dX1_well_94 : decode cX1_well 94 = .ok (.getfield 122, 3) := by decide +kernel
theorem dX1_well_97 : decode cX1_well 97 = .ok (.bipush 20, 2) := by decide +kernel
theorem dX1_well_99 : decode cX1_well 99 = .ok (.if_icmp .ge 7, 3) := by decide +kernel
theorem dX1_well_102 : decode cX1_well 102 = .ok (.iconst 1, 1) := by decide +kernel
theorem dX1_well_103 : decode cX1_well 103 = .ok (.goto 4, 3) := by decide +kernel
theorem dX1_well_106 : decode cX1_well 106 = .ok (.iconst 0, 1) := by decide +kernel
theorem dX1_well_107 : decode cX1_well 107 = .ok (.invokestatic 118, 3) := by decide +kernel
theorem dX1_well_110 : decode cX1_well 110 = .ok (.aload 5, 2) := by decide +kernel
theorem dX1_well_112 : decode cX1_well 112 = .ok (.getfield 125, 3) := by decide +kernel
theorem dX1_well_115 : decode cX1_well 115 = .ok (.aload 5, 2) := by decide +kernel
theorem dX1_well_117 : decode cX1_well 117 = .ok (.getfield 122, 3) := by decide +kernel
theorem dX1_well_120 : decode cX1_well 120 = .ok (.new 130, 3) := by decide +kernel
theorem dX1_well_123 : decode cX1_well 123 = .ok (.dup, 1) := by decide +kernel
theorem dX1_well_124 : decode cX1_well 124 = .ok (.iload_n 2, 1) := by decide +kernel
theorem dX1_well_125 : decode cX1_well 125 = .ok (.iload_n 3, 1) := by decide +kernel
theorem dX1_well_126 : decode cX1_well 126 = .ok (.iload 4, 2) := by decide +kernel
theorem dX1_well_128 : decode cX1_well 128 = .ok (.invokespecial 134, 3) := by decide +kernel
theorem dX1_well_131 : decode cX1_well 131 = .ok (.aastore, 1) := by decide +kernel
theorem dX1_well_132 : decode cX1_well 132 = .ok (.aload 5, 2) := by decide +kernel
theorem dX1_well_134 : decode cX1_well 134 = .ok (.dup, 1) := by decide +kernel
theorem dX1_well_135 : decode cX1_well 135 = .ok (.getfield 122, 3) := by decide +kernel
theorem dX1_well_138 : decode cX1_well 138 = .ok (.iconst 1, 1) := by decide +kernel
theorem dX1_well_139 : decode cX1_well 139 = .ok (.iadd, 1) := by decide +kernel
theorem dX1_well_140 : decode cX1_well 140 = .ok (.putfield 122, 3) := by decide +kernel
theorem dX1_well_143 : decode cX1_well 143 = .ok (.aload 5, 2) := by decide +kernel
theorem dX1_well_145 : decode cX1_well 145 = .ok (.getfield 122, 3) := by decide +kernel
theorem dX1_well_148 : decode cX1_well 148 = .ok (.iconst 1, 1) := by decide +kernel
theorem dX1_well_149 : decode cX1_well 149 = .ok (.isub, 1) := by decide +kernel
theorem dX1_well_150 : decode cX1_well 150 = .ok (.ireturn, 1) := by decide +kernel
theorem dX1_channelAt_0 : decode cX1_channelAt 0 = .ok (.iload_n 1, 1) := by decide +kernel
theorem dX1_channelAt_1 : decode cX1_channelAt 1 = .ok (.iconst 0, 1) := by decide +kernel
theorem dX1_channelAt_2 : decode cX1_channelAt 2 = .ok (.aload_n 0, 1) := by decide +kernel
theorem dX1_channelAt_3 : decode cX1_channelAt 3 = .ok (.getfield 83, 3) := by decide +kernel
theorem dX1_channelAt_6 : decode cX1_channelAt 6 = .ok (.iconst 1, 1) := by decide +kernel
theorem dX1_channelAt_7 : decode cX1_channelAt 7 = .ok (.isub, 1) := by decide +kernel
theorem dX1_channelAt_8 : decode cX1_channelAt 8 = .ok (.invokestatic 79, 3) := by decide +kernel
theorem dX1_channelAt_11 : decode cX1_channelAt 11 = .ok (.invokestatic 86, 3) := by decide +kernel
theorem dX1_channelAt_14 : decode cX1_channelAt 14 = .ok (.aload_n 0, 1) := by decide +kernel
theorem dX1_channelAt_15 : decode cX1_channelAt 15 = .ok (.getfield 18, 3) := by decide +kernel
theorem dX1_channelAt_18 : decode cX1_channelAt 18 = .ok (.iload_n 1, 1) := by decide +kernel
theorem dX1_channelAt_19 : decode cX1_channelAt 19 = .ok (.aaload, 1) := by decide +kernel
theorem dX1_channelAt_20 : decode cX1_channelAt 20 = .ok (.areturn, 1) := by decide +kernel
theorem dX1_mustBe_0 : decode cX1_mustBe 0 = .ok (.iload_n 0, 1) := by decide +kernel
theorem dX1_mustBe_1 : decode cX1_mustBe 1 = .ok (.ifCond .ne 11, 3) := by decide +kernel
theorem dX1_mustBe_4 : decode cX1_mustBe 4 = .ok (.new 73, 3) := by decide +kernel
theorem dX1_mustBe_7 : decode cX1_mustBe 7 = .ok (.dup, 1) := by decide +kernel
theorem dX1_mustBe_8 : decode cX1_mustBe 8 = .ok (.invokespecial 75, 3) := by decide +kernel
theorem dX1_mustBe_11 : decode cX1_mustBe 11 = .ok (.athrow, 1) := by decide +kernel
theorem dX1_mustBe_12 : decode cX1_mustBe 12 = .ok (.return_, 1) := by decide +kernel
theorem dX1_stands_0 : decode cX1_stands 0 = .ok (.iload_n 0, 1) := by decide +kernel
theorem dX1_stands_1 : decode cX1_stands 1 = .ok (.ifCond .ne 11, 3) := by decide +kernel
theorem dX1_stands_4 : decode cX1_stands 4 = .ok (.new 76, 3) := by decide +kernel
theorem dX1_stands_7 : decode cX1_stands 7 = .ok (.dup, 1) := by decide +kernel
theorem dX1_stands_8 : decode cX1_stands 8 = .ok (.invokespecial 78, 3) := by decide +kernel
theorem dX1_stands_11 : decode cX1_stands 11 = .ok (.athrow, 1) := by decide +kernel
theorem dX1_stands_12 : decode cX1_stands 12 = .ok (.return_, 1) := by decide +kernel
theorem dX1_may_0 : decode cX1_may 0 = .ok (.aload_n 0, 1) := by decide +kernel
theorem dX1_may_1 : decode cX1_may 1 = .ok (.iload_n 1, 1) := by decide +kernel
theorem dX1_may_2 : decode cX1_may 2 = .ok (.invokevirtual 90, 3) := by decide +kernel
theorem dX1_may_5 : decode cX1_may 5 = .ok (.astore_n 2, 1) := by decide +kernel
theorem dX1_may_6 : decode cX1_may 6 = .ok (.aload_n 2, 1) := by decide +kernel
theorem dX1_may_7 : decode cX1_may 7 = .ok (.invokevirtual 94, 3) := by decide +kernel
theorem dX1_may_10 : decode cX1_may 10 = .ok (.ifCond .ne 7, 3) := by decide +kernel
theorem dX1_may_13 : decode cX1_may 13 = .ok (.iconst 1, 1) := by decide +kernel
theorem dX1_may_14 : decode cX1_may 14 = .ok (.goto 4, 3) := by decide +kernel
theorem dX1_may_17 : decode cX1_may 17 = .ok (.iconst 0, 1) := by decide +kernel
theorem dX1_may_18 : decode cX1_may 18 = .ok (.invokestatic 98, 3) := by decide +kernel
theorem dX1_may_21 : decode cX1_may 21 = .ok (.aload_n 0, 1) := by decide +kernel
theorem dX1_may_22 : decode cX1_may 22 = .ok (.aload_n 2, 1) := by decide +kernel
theorem dX1_may_23 : decode cX1_may 23 = .ok (.invokevirtual 141, 3) := by decide +kernel
theorem dX1_may_26 : decode cX1_may 26 = .ok (.ireturn, 1) := by decide +kernel
theorem dX1_isAllowed_0 : decode cX1_isAllowed 0 = .ok (.aload_n 1, 1) := by decide +kernel
theorem dX1_isAllowed_1 : decode cX1_isAllowed 1 = .ok (.getfield 122, 3) := by decide +kernel
theorem dX1_isAllowed_4 : decode cX1_isAllowed 4 = .ok (.iconst 2, 1) := by decide +kernel
theorem dX1_isAllowed_5 : decode cX1_isAllowed 5 = .ok (.if_icmp .lt 7, 3) := by decide +kernel
theorem dX1_isAllowed_8 : decode cX1_isAllowed 8 = .ok (.iconst 1, 1) := by decide +kernel
theorem dX1_isAllowed_9 : decode cX1_isAllowed 9 = .ok (.goto 4, 3) := by decide +kernel
theorem dX1_isAllowed_12 : decode cX1_isAllowed 12 = .ok (.iconst 0, 1) := by decide +kernel
theorem dX1_isAllowed_13 : decode cX1_isAllowed 13 = .ok (.istore_n 2, 1) := by decide +kernel
theorem dX1_isAllowed_14 : decode cX1_isAllowed 14 = .ok (.iconst 0, 1) := by decide +kernel
theorem dX1_isAllowed_15 : decode cX1_isAllowed 15 = .ok (.istore_n 3, 1) := by decide +kernel
theorem dX1_isAllowed_16 : decode cX1_isAllowed 16 = .ok (.iload_n 3, 1) := by decide +kernel
theorem dX1_isAllowed_17 : decode cX1_isAllowed 17 = .ok (.aload_n 0, 1) := by decide +kernel
theorem dX1_isAllowed_18 : decode cX1_isAllowed 18 = .ok (.getfield 83, 3) := by decide +kernel
theorem dX1_isAllowed_21 : decode cX1_isAllowed 21 = .ok (.if_icmp .ge 138, 3) := by decide +kernel
theorem dX1_isAllowed_24 : decode cX1_isAllowed 24 = .ok (.iload_n 2, 1) := by decide +kernel
theorem dX1_isAllowed_25 : decode cX1_isAllowed 25 = .ok (.ifCond .eq 134, 3) := by decide +kernel
theorem dX1_isAllowed_28 : decode cX1_isAllowed 28 = .ok (.aload_n 0, 1) := by decide +kernel
theorem dX1_isAllowed_29 : decode cX1_isAllowed 29 = .ok (.getfield 18, 3) := by decide +kernel
theorem dX1_isAllowed_32 : decode cX1_isAllowed 32 = .ok (.iload_n 3, 1) := by decide +kernel
theorem dX1_isAllowed_33 : decode cX1_isAllowed 33 = .ok (.aaload, 1) := by decide +kernel
theorem dX1_isAllowed_34 : decode cX1_isAllowed 34 = .ok (.astore 4, 2) := by decide +kernel
theorem dX1_isAllowed_36 : decode cX1_isAllowed 36 = .ok (.iconst 0, 1) := by decide +kernel
theorem dX1_isAllowed_37 : decode cX1_isAllowed 37 = .ok (.istore 5, 2) := by decide +kernel
theorem dX1_isAllowed_39 : decode cX1_isAllowed 39 = .ok (.iload 5, 2) := by decide +kernel
theorem dX1_isAllowed_41 : decode cX1_isAllowed 41 = .ok (.aload_n 1, 1) := by decide +kernel
theorem dX1_isAllowed_42 : decode cX1_isAllowed 42 = .ok (.getfield 122, 3) := by decide +kernel
theorem dX1_isAllowed_45 : decode cX1_isAllowed 45 = .ok (.if_icmp .ge 108, 3) := by decide +kernel
theorem dX1_isAllowed_48 : decode cX1_isAllowed 48 = .ok (.iload_n 2, 1) := by decide +kernel
theorem dX1_isAllowed_49 : decode cX1_isAllowed 49 = .ok (.ifCond .eq 104, 3) := by decide +kernel
theorem dX1_isAllowed_52 : decode cX1_isAllowed 52 = .ok (.aload 4, 2) := by decide +kernel
theorem dX1_isAllowed_54 : decode cX1_isAllowed 54 = .ok (.invokevirtual 94, 3) := by decide +kernel
theorem dX1_isAllowed_57 : decode cX1_isAllowed 57 = .ok (.ifCond .eq 96, 3) := by decide +kernel
theorem dX1_isAllowed_60 : decode cX1_isAllowed 60 = .ok (.iconst 0, 1) := by decide +kernel
theorem dX1_isAllowed_61 : decode cX1_isAllowed 61 = .ok (.istore 6, 2) := by decide +kernel
theorem dX1_isAllowed_63 : decode cX1_isAllowed 63 = .ok (.iload 6, 2) := by decide +kernel
theorem dX1_isAllowed_65 : decode cX1_isAllowed 65 = .ok (.aload 4, 2) := by decide +kernel
theorem dX1_isAllowed_67 : decode cX1_isAllowed 67 = .ok (.getfield 122, 3) := by decide +kernel
theorem dX1_isAllowed_70 : decode cX1_isAllowed 70 = .ok (.if_icmp .ge 77, 3) := by decide +kernel
theorem dX1_isAllowed_73 : decode cX1_isAllowed 73 = .ok (.iload_n 2, 1) := by decide +kernel
theorem dX1_isAllowed_74 : decode cX1_isAllowed 74 = .ok (.ifCond .eq 73, 3) := by decide +kernel
theorem dX1_isAllowed_77 : decode cX1_isAllowed 77 = .ok (.aload_n 1, 1) := by decide +kernel
theorem dX1_isAllowed_78 : decode cX1_isAllowed 78 = .ok (.getfield 125, 3) := by decide +kernel
theorem dX1_isAllowed_81 : decode cX1_isAllowed 81 = .ok (.iload 5, 2) := by decide +kernel
theorem dX1_isAllowed_83 : decode cX1_isAllowed 83 = .ok (.aaload, 1) := by decide +kernel
theorem dX1_isAllowed_84 : decode cX1_isAllowed 84 = .ok (.aload 4, 2) := by decide +kernel
theorem dX1_isAllowed_86 : decode cX1_isAllowed 86 = .ok (.getfield 125, 3) := by decide +kernel
theorem dX1_isAllowed_89 : decode cX1_isAllowed 89 = .ok (.iload 6, 2) := by decide +kernel
theorem dX1_isAllowed_91 : decode cX1_isAllowed 91 = .ok (.aaload, 1) := by decide +kernel
theorem dX1_isAllowed_92 : decode cX1_isAllowed 92 = .ok (.invokevirtual 137, 3) := by decide +kernel
theorem dX1_isAllowed_95 : decode cX1_isAllowed 95 = .ok (.aload_n 0, 1) := by decide +kernel
theorem dX1_isAllowed_96 : decode cX1_isAllowed 96 = .ok (.getfield 28, 3) := by decide +kernel
theorem dX1_isAllowed_99 : decode cX1_isAllowed 99 = .ok (.iconst 0, 1) := by decide +kernel
theorem dX1_isAllowed_100 : decode cX1_isAllowed 100 = .ok (.iaload, 1) := by decide +kernel
theorem dX1_isAllowed_101 : decode cX1_isAllowed 101 = .ok (.if_icmp .ge 34, 3) := by decide +kernel
theorem dX1_isAllowed_104 : decode cX1_isAllowed 104 = .ok (.aload_n 1, 1) := by decide +kernel
theorem dX1_isAllowed_105 : decode cX1_isAllowed 105 = .ok (.getfield 125, 3) := by decide +kernel
theorem dX1_isAllowed_108 : decode cX1_isAllowed 108 = .ok (.iload 5, 2) := by decide +kernel
theorem dX1_isAllowed_110 : decode cX1_isAllowed 110 = .ok (.aaload, 1) := by decide +kernel
theorem dX1_isAllowed_111 : decode cX1_isAllowed 111 = .ok (.getfield 129, 3) := by decide +kernel
theorem dX1_isAllowed_114 : decode cX1_isAllowed 114 = .ok (.aload 4, 2) := by decide +kernel
theorem dX1_isAllowed_116 : decode cX1_isAllowed 116 = .ok (.getfield 125, 3) := by decide +kernel
theorem dX1_isAllowed_119 : decode cX1_isAllowed 119 = .ok (.iload 6, 2) := by decide +kernel
theorem dX1_isAllowed_121 : decode cX1_isAllowed 121 = .ok (.aaload, 1) := by decide +kernel
theorem dX1_isAllowed_122 : decode cX1_isAllowed 122 = .ok (.getfield 129, 3) := by decide +kernel
theorem dX1_isAllowed_125 : decode cX1_isAllowed 125 = .ok (.aload_n 0, 1) := by decide +kernel
theorem dX1_isAllowed_126 : decode cX1_isAllowed 126 = .ok (.getfield 28, 3) := by decide +kernel
theorem dX1_isAllowed_129 : decode cX1_isAllowed 129 = .ok (.iconst 1, 1) := by decide +kernel
theorem dX1_isAllowed_130 : decode cX1_isAllowed 130 = .ok (.iaload, 1) := by decide +kernel
theorem dX1_isAllowed_131 : decode cX1_isAllowed 131 = .ok (.iadd, 1) := by decide +kernel
theorem dX1_isAllowed_132 : decode cX1_isAllowed 132 = .ok (.if_icmp .lt 7, 3) := by decide +kernel
theorem dX1_isAllowed_135 : decode cX1_isAllowed 135 = .ok (.iconst 1, 1) := by decide +kernel
theorem dX1_isAllowed_136 : decode cX1_isAllowed 136 = .ok (.goto 4, 3) := by decide +kernel
theorem dX1_isAllowed_139 : decode cX1_isAllowed 139 = .ok (.iconst 0, 1) := by decide +kernel
theorem dX1_isAllowed_140 : decode cX1_isAllowed 140 = .ok (.istore_n 2, 1) := by decide +kernel
theorem dX1_isAllowed_141 : decode cX1_isAllowed 141 = .ok (.iinc 6 1, 3) := by decide +kernel
theorem dX1_isAllowed_144 : decode cX1_isAllowed 144 = .ok (.goto (-81), 3) := by decide +kernel
theorem dX1_isAllowed_147 : decode cX1_isAllowed 147 = .ok (.iinc 5 1, 3) := by decide +kernel
theorem dX1_isAllowed_150 : decode cX1_isAllowed 150 = .ok (.goto (-111), 3) := by decide +kernel
theorem dX1_isAllowed_153 : decode cX1_isAllowed 153 = .ok (.iinc 3 1, 3) := by decide +kernel
theorem dX1_isAllowed_156 : decode cX1_isAllowed 156 = .ok (.goto (-140), 3) := by decide +kernel
