set_option maxRecDepth 100000
theorem dJ0_init_0 : decode cJ0_init 0 = .ok (.aload_n 0, 1) := by decide +kernel
theorem dJ0_init_1 : decode cJ0_init 1 = .ok (.invokespecial 1, 3) := by decide +kernel
theorem dJ0_init_4 : decode cJ0_init 4 = .ok (.aload_n 0, 1) := by decide +kernel
theorem dJ0_init_5 : decode cJ0_init 5 = .ok (.aload_n 0, 1) := by decide +kernel
theorem dJ0_init_6 : decode cJ0_init 6 = .ok (.putfield 7, 3) := by decide +kernel
theorem dJ0_init_9 : decode cJ0_init 9 = .ok (.aload_n 0, 1) := by decide +kernel
theorem dJ0_init_10 : decode cJ0_init 10 = .ok (.getstatic 13, 3) := by decide +kernel
theorem dJ0_init_13 : decode cJ0_init 13 = .ok (.putfield 17, 3) := by decide +kernel
theorem dJ0_init_16 : decode cJ0_init 16 = .ok (.aload_n 0, 1) := by decide +kernel
theorem dJ0_init_17 : decode cJ0_init 17 = .ok (.getstatic 20, 3) := by decide +kernel
theorem dJ0_init_20 : decode cJ0_init 20 = .ok (.putfield 24, 3) := by decide +kernel
theorem dJ0_init_23 : decode cJ0_init 23 = .ok (.aload_n 0, 1) := by decide +kernel
theorem dJ0_init_24 : decode cJ0_init 24 = .ok (.invokevirtual 27, 3) := by decide +kernel
theorem dJ0_init_27 : decode cJ0_init 27 = .ok (.pop, 1) := by decide +kernel
theorem dJ0_init_28 : decode cJ0_init 28 = .ok (.return_, 1) := by decide +kernel
theorem dJ0_init_2_0 : decode cJ0_init_2 0 = .ok (.aload_n 0, 1) := by decide +kernel
theorem dJ0_init_2_1 : decode cJ0_init_2 1 = .ok (.invokespecial 1, 3) := by decide +kernel
theorem dJ0_init_2_4 : decode cJ0_init_2 4 = .ok (.aload_n 0, 1) := by decide +kernel
theorem dJ0_init_2_5 : decode cJ0_init_2 5 = .ok (.aload_n 0, 1) := by decide +kernel
theorem dJ0_init_2_6 : decode cJ0_init_2 6 = .ok (.putfield 7, 3) := by decide +kernel
theorem dJ0_init_2_9 : decode cJ0_init_2 9 = .ok (.aload_n 0, 1) := by decide +kernel
theorem dJ0_init_2_10 : decode cJ0_init_2 10 = .ok (.getstatic 13, 3) := by decide +kernel
theorem dJ0_init_2_13 : decode cJ0_init_2 13 = .ok (.putfield 17, 3) := by decide +kernel
theorem dJ0_init_2_16 : decode cJ0_init_2 16 = .ok (.aload_n 0, 1) := by decide +kernel
theorem dJ0_init_2_17 : decode cJ0_init_2 17 = .ok (.getstatic 20, 3) := by decide +kernel
theorem dJ0_init_2_20 : decode cJ0_init_2 20 = .ok (.putfield 24, 3) := by decide +kernel
theorem dJ0_init_2_23 : decode cJ0_init_2 23 = .ok (.iload 4, 2) := by decide +kernel
theorem dJ0_init_2_25 : decode cJ0_init_2 25 = .ok (.ifCond .eq 11, 3) := by decide +kernel
theorem dJ0_init_2_28 : decode cJ0_init_2 28 = .ok (.aload_n 0, 1) := by decide +kernel
theorem dJ0_init_2_29 : decode cJ0_init_2 29 = .ok (.invokevirtual 27, 3) := by decide +kernel
theorem dJ0_init_2_32 : decode cJ0_init_2 32 = .ok (.pop, 1) := by decide +kernel
theorem dJ0_init_2_33 : decode cJ0_init_2 33 = .ok (.goto 8, 3) := by decide +kernel
theorem dJ0_init_2_36 : decode cJ0_init_2 36 = .ok (.aload_n 0, 1) := by decide +kernel
theorem dJ0_init_2_37 : decode cJ0_init_2 37 = .ok (.aconst_null, 1) := by decide +kernel
theorem dJ0_init_2_38 : decode cJ0_init_2 38 = .ok (.putfield 17, 3) := by decide +kernel
theorem dJ0_init_2_41 : decode cJ0_init_2 41 = .ok (.aload_n 0, 1) := by decide +kernel
theorem dJ0_init_2_42 : decode cJ0_init_2 42 = .ok (.aload_n 1, 1) := by decide +kernel
theorem dJ0_init_2_43 : decode cJ0_init_2 43 = .ok (.putfield 31, 3) := by decide +kernel
theorem dJ0_init_2_46 : decode cJ0_init_2 46 = .ok (.aload_n 0, 1) := by decide +kernel
theorem dJ0_init_2_47 : decode cJ0_init_2 47 = .ok (.aload_n 2, 1) := by decide +kernel
theorem dJ0_init_2_48 : decode cJ0_init_2 48 = .ok (.putfield 7, 3) := by decide +kernel
theorem dJ0_init_2_51 : decode cJ0_init_2 51 = .ok (.iload_n 3, 1) := by decide +kernel
theorem dJ0_init_2_52 : decode cJ0_init_2 52 = .ok (.ifCond .ne 8, 3) := by decide +kernel
theorem dJ0_init_2_55 : decode cJ0_init_2 55 = .ok (.aload_n 0, 1) := by decide +kernel
theorem dJ0_init_2_56 : decode cJ0_init_2 56 = .ok (.aconst_null, 1) := by decide +kernel
theorem dJ0_init_2_57 : decode cJ0_init_2 57 = .ok (.putfield 24, 3) := by decide +kernel
theorem dJ0_init_2_60 : decode cJ0_init_2 60 = .ok (.return_, 1) := by decide +kernel
theorem dJ0_init_3_0 : decode cJ0_init_3 0 = .ok (.aload_n 0, 1) := by decide +kernel
theorem dJ0_init_3_1 : decode cJ0_init_3 1 = .ok (.invokespecial 1, 3) := by decide +kernel
theorem dJ0_init_3_4 : decode cJ0_init_3 4 = .ok (.aload_n 0, 1) := by decide +kernel
theorem dJ0_init_3_5 : decode cJ0_init_3 5 = .ok (.aload_n 0, 1) := by decide +kernel
theorem dJ0_init_3_6 : decode cJ0_init_3 6 = .ok (.putfield 7, 3) := by decide +kernel
theorem dJ0_init_3_9 : decode cJ0_init_3 9 = .ok (.aload_n 0, 1) := by decide +kernel
theorem dJ0_init_3_10 : decode cJ0_init_3 10 = .ok (.getstatic 13, 3) := by decide +kernel
theorem dJ0_init_3_13 : decode cJ0_init_3 13 = .ok (.putfield 17, 3) := by decide +kernel
theorem dJ0_init_3_16 : decode cJ0_init_3 16 = .ok (.aload_n 0, 1) := by decide +kernel
theorem dJ0_init_3_17 : decode cJ0_init_3 17 = .ok (.getstatic 20, 3) := by decide +kernel
theorem dJ0_init_3_20 : decode cJ0_init_3 20 = .ok (.putfield 24, 3) := by decide +kernel
theorem dJ0_init_3_23 : decode cJ0_init_3 23 = .ok (.aload_n 0, 1) := by decide +kernel
theorem dJ0_init_3_24 : decode cJ0_init_3 24 = .ok (.invokevirtual 27, 3) := by decide +kernel
theorem dJ0_init_3_27 : decode cJ0_init_3 27 = .ok (.pop, 1) := by decide +kernel
theorem dJ0_init_3_28 : decode cJ0_init_3 28 = .ok (.aload_n 0, 1) := by decide +kernel
theorem dJ0_init_3_29 : decode cJ0_init_3 29 = .ok (.aload_n 1, 1) := by decide +kernel
theorem dJ0_init_3_30 : decode cJ0_init_3 30 = .ok (.putfield 31, 3) := by decide +kernel
theorem dJ0_init_3_33 : decode cJ0_init_3 33 = .ok (.return_, 1) := by decide +kernel
theorem dJ1_init_0 : decode cJ1_init 0 = .ok (.aload_n 0, 1) := by decide +kernel
theorem dJ1_init_1 : decode cJ1_init 1 = .ok (.aload_n 1, 1) := by decide +kernel
theorem dJ1_init_2 : decode cJ1_init 2 = .ok (.aload_n 2, 1) := by decide +kernel
theorem dJ1_init_3 : decode cJ1_init 3 = .ok (.iload_n 3, 1) := by decide +kernel
theorem dJ1_init_4 : decode cJ1_init 4 = .ok (.iload 4, 2) := by decide +kernel
theorem dJ1_init_6 : decode cJ1_init 6 = .ok (.invokespecial 16, 3) := by decide +kernel
theorem dJ1_init_9 : decode cJ1_init 9 = .ok (.return_, 1) := by decide +kernel
theorem dJ1_init_2_0 : decode cJ1_init_2 0 = .ok (.aload_n 0, 1) := by decide +kernel
theorem dJ1_init_2_1 : decode cJ1_init_2 1 = .ok (.invokespecial 1, 3) := by decide +kernel
theorem dJ1_init_2_4 : decode cJ1_init_2 4 = .ok (.return_, 1) := by decide +kernel
theorem dJ1_init_3_0 : decode cJ1_init_3 0 = .ok (.aload_n 0, 1) := by decide +kernel
theorem dJ1_init_3_1 : decode cJ1_init_3 1 = .ok (.aload_n 1, 1) := by decide +kernel
theorem dJ1_init_3_2 : decode cJ1_init_3 2 = .ok (.invokespecial 7, 3) := by decide +kernel
theorem dJ1_init_3_5 : decode cJ1_init_3 5 = .ok (.return_, 1) := by decide +kernel
theorem dJ10_init_0 : decode cJ10_init 0 = .ok (.aload_n 0, 1) := by decide +kernel
theorem dJ10_init_1 : decode cJ10_init 1 = .ok (.invokespecial 1, 3) := by decide +kernel
theorem dJ10_init_4 : decode cJ10_init 4 = .ok (.return_, 1) := by decide +kernel
theorem dJ11_charAt_0 : decode cJ11_charAt 0 = .ok (.iload_n 1, 1) := by decide +kernel
theorem dJ11_charAt_1 : decode cJ11_charAt 1 = .ok (.aload_n 0, 1) := by decide +kernel
theorem dJ11_charAt_2 : decode cJ11_charAt 2 = .ok (.arraylength, 1) := by decide +kernel
theorem dJ11_charAt_3 : decode cJ11_charAt 3 = .ok (.invokestatic 9, 3) := by decide +kernel
theorem dJ11_charAt_6 : decode cJ11_charAt 6 = .ok (.aload_n 0, 1) := by decide +kernel
theorem dJ11_charAt_7 : decode cJ11_charAt 7 = .ok (.iload_n 1, 1) := by decide +kernel
theorem dJ11_charAt_8 : decode cJ11_charAt 8 = .ok (.baload, 1) := by decide +kernel
theorem dJ11_charAt_9 : decode cJ11_charAt 9 = .ok (.sipush 255, 3) := by decide +kernel
theorem dJ11_charAt_12 : decode cJ11_charAt 12 = .ok (.iand, 1) := by decide +kernel
theorem dJ11_charAt_13 : decode cJ11_charAt 13 = .ok (.i2c, 1) := by decide +kernel
theorem dJ11_charAt_14 : decode cJ11_charAt 14 = .ok (.ireturn, 1) := by decide +kernel
theorem dJ12_checkIndex_0 : decode cJ12_checkIndex 0 = .ok (.iload_n 0, 1) := by decide +kernel
theorem dJ12_checkIndex_1 : decode cJ12_checkIndex 1 = .ok (.ifCond .lt 8, 3) := by decide +kernel
theorem dJ12_checkIndex_4 : decode cJ12_checkIndex 4 = .ok (.iload_n 0, 1) := by decide +kernel
theorem dJ12_checkIndex_5 : decode cJ12_checkIndex 5 = .ok (.iload_n 1, 1) := by decide +kernel
theorem dJ12_checkIndex_6 : decode cJ12_checkIndex 6 = .ok (.if_icmp .lt 10, 3) := by decide +kernel
theorem dJ12_checkIndex_9 : decode cJ12_checkIndex 9 = .ok (.aload_n 2, 1) := by decide +kernel
theorem dJ12_checkIndex_10 : decode cJ12_checkIndex 10 = .ok (.iload_n 0, 1) := by decide +kernel
theorem dJ12_checkIndex_11 : decode cJ12_checkIndex 11 = .ok (.iload_n 1, 1) := by decide +kernel
theorem dJ12_checkIndex_12 : decode cJ12_checkIndex 12 = .ok (.invokestatic 95, 3) := by decide +kernel
theorem dJ12_checkIndex_15 : decode cJ12_checkIndex 15 = .ok (.athrow, 1) := by decide +kernel
theorem dJ12_checkIndex_16 : decode cJ12_checkIndex 16 = .ok (.iload_n 0, 1) := by decide +kernel
theorem dJ12_checkIndex_17 : decode cJ12_checkIndex 17 = .ok (.ireturn, 1) := by decide +kernel
theorem dJ13_charAt_0 : decode cJ13_charAt 0 = .ok (.iload_n 1, 1) := by decide +kernel
theorem dJ13_charAt_1 : decode cJ13_charAt 1 = .ok (.aload_n 0, 1) := by decide +kernel
theorem dJ13_charAt_2 : decode cJ13_charAt 2 = .ok (.invokestatic 67, 3) := by decide +kernel
theorem dJ13_charAt_5 : decode cJ13_charAt 5 = .ok (.aload_n 0, 1) := by decide +kernel
theorem dJ13_charAt_6 : decode cJ13_charAt 6 = .ok (.iload_n 1, 1) := by decide +kernel
theorem dJ13_charAt_7 : decode cJ13_charAt 7 = .ok (.invokestatic 71, 3) := by decide +kernel
theorem dJ13_charAt_10 : decode cJ13_charAt 10 = .ok (.ireturn, 1) := by decide +kernel
theorem dJ13_checkIndex_0 : decode cJ13_checkIndex 0 = .ok (.iload_n 0, 1) := by decide +kernel
theorem dJ13_checkIndex_1 : decode cJ13_checkIndex 1 = .ok (.aload_n 1, 1) := by decide +kernel
theorem dJ13_checkIndex_2 : decode cJ13_checkIndex 2 = .ok (.invokestatic 48, 3) := by decide +kernel
theorem dJ13_checkIndex_5 : decode cJ13_checkIndex 5 = .ok (.invokestatic 414, 3) := by decide +kernel
theorem dJ13_checkIndex_8 : decode cJ13_checkIndex 8 = .ok (.return_, 1) := by decide +kernel
theorem dJ13_length_0 : decode cJ13_length 0 = .ok (.aload_n 0, 1) := by decide +kernel
theorem dJ13_length_1 : decode cJ13_length 1 = .ok (.arraylength, 1) := by decide +kernel
theorem dJ13_length_2 : decode cJ13_length 2 = .ok (.iconst 1, 1) := by decide +kernel
theorem dJ13_length_3 : decode cJ13_length 3 = .ok (.ishr, 1) := by decide +kernel
theorem dJ13_length_4 : decode cJ13_length 4 = .ok (.ireturn, 1) := by decide +kernel
theorem dJ13_getChar_0 : decode cJ13_getChar 0 = .ok (.getstatic 44, 3) := by decide +kernel
theorem dJ13_getChar_3 : decode cJ13_getChar 3 = .ok (.ifCond .ne 25, 3) := by decide +kernel
theorem dJ13_getChar_6 : decode cJ13_getChar 6 = .ok (.iload_n 1, 1) := by decide +kernel
theorem dJ13_getChar_7 : decode cJ13_getChar 7 = .ok (.ifCond .lt 11, 3) := by decide +kernel
theorem dJ13_getChar_10 : decode cJ13_getChar 10 = .ok (.iload_n 1, 1) := by decide +kernel
theorem dJ13_getChar_11 : decode cJ13_getChar 11 = .ok (.aload_n 0, 1) := by decide +kernel
theorem dJ13_getChar_12 : decode cJ13_getChar 12 = .ok (.invokestatic 48, 3) := by decide +kernel
theorem dJ13_getChar_15 : decode cJ13_getChar 15 = .ok (.if_icmp .lt 13, 3) := by decide +kernel
theorem dJ13_getChar_18 : decode cJ13_getChar 18 = .ok (.new 52, 3) := by decide +kernel
theorem dJ13_getChar_21 : decode cJ13_getChar 21 = .ok (.dup, 1) := by decide +kernel
theorem dJ13_getChar_22 : decode cJ13_getChar 22 = .ok (.ldc 54, 2) := by decide +kernel
theorem dJ13_getChar_24 : decode cJ13_getChar 24 = .ok (.invokespecial 56, 3) := by decide +kernel
theorem dJ13_getChar_27 : decode cJ13_getChar 27 = .ok (.athrow, 1) := by decide +kernel
theorem dJ13_getChar_28 : decode cJ13_getChar 28 = .ok (.iload_n 1, 1) := by decide +kernel
theorem dJ13_getChar_29 : decode cJ13_getChar 29 = .ok (.iconst 1, 1) := by decide +kernel
theorem dJ13_getChar_30 : decode cJ13_getChar 30 = .ok (.ishl, 1) := by decide +kernel
theorem dJ13_getChar_31 : decode cJ13_getChar 31 = .ok (.istore_n 1, 1) := by decide +kernel
theorem dJ13_getChar_32 : decode cJ13_getChar 32 = .ok (.aload_n 0, 1) := by decide +kernel
theorem dJ13_getChar_33 : decode cJ13_getChar 33 = .ok (.iload_n 1, 1) := by decide +kernel
theorem dJ13_getChar_34 : decode cJ13_getChar 34 = .ok (.iinc 1 1, 3) := by decide +kernel
theorem dJ13_getChar_37 : decode cJ13_getChar 37 = .ok (.baload, 1) := by decide +kernel
theorem dJ13_getChar_38 : decode cJ13_getChar 38 = .ok (.sipush 255, 3) := by decide +kernel
theorem dJ13_getChar_41 : decode cJ13_getChar 41 = .ok (.iand, 1) := by decide +kernel
theorem dJ13_getChar_42 : decode cJ13_getChar 42 = .ok (.getstatic 59, 3) := by decide +kernel
theorem dJ13_getChar_45 : decode cJ13_getChar 45 = .ok (.ishl, 1) := by decide +kernel
theorem dJ13_getChar_46 : decode cJ13_getChar 46 = .ok (.aload_n 0, 1) := by decide +kernel
theorem dJ13_getChar_47 : decode cJ13_getChar 47 = .ok (.iload_n 1, 1) := by decide +kernel
theorem dJ13_getChar_48 : decode cJ13_getChar 48 = .ok (.baload, 1) := by decide +kernel
theorem dJ13_getChar_49 : decode cJ13_getChar 49 = .ok (.sipush 255, 3) := by decide +kernel
theorem dJ13_getChar_52 : decode cJ13_getChar 52 = .ok (.iand, 1) := by decide +kernel
theorem dJ13_getChar_53 : decode cJ13_getChar 53 = .ok (.getstatic 63, 3) := by decide +kernel
theorem dJ13_getChar_56 : decode cJ13_getChar 56 = .ok (.ishl, 1) := by decide +kernel
theorem dJ13_getChar_57 : decode cJ13_getChar 57 = .ok (.ior, 1) := by decide +kernel
theorem dJ13_getChar_58 : decode cJ13_getChar 58 = .ok (.i2c, 1) := by decide +kernel
theorem dJ13_getChar_59 : decode cJ13_getChar 59 = .ok (.ireturn, 1) := by decide +kernel
theorem dJ14_init_0 : decode cJ14_init 0 = .ok (.return_, 1) := by decide +kernel
theorem dJ2_init_0 : decode cJ2_init 0 = .ok (.aload_n 0, 1) := by decide +kernel
theorem dJ2_init_1 : decode cJ2_init 1 = .ok (.aload_n 1, 1) := by decide +kernel
theorem dJ2_init_2 : decode cJ2_init 2 = .ok (.aload_n 2, 1) := by decide +kernel
theorem dJ2_init_3 : decode cJ2_init 3 = .ok (.iload_n 3, 1) := by decide +kernel
theorem dJ2_init_4 : decode cJ2_init 4 = .ok (.iload 4, 2) := by decide +kernel
theorem dJ2_init_6 : decode cJ2_init 6 = .ok (.invokespecial 16, 3) := by decide +kernel
theorem dJ2_init_9 : decode cJ2_init 9 = .ok (.return_, 1) := by decide +kernel
theorem dJ2_init_2_0 : decode cJ2_init_2 0 = .ok (.aload_n 0, 1) := by decide +kernel
theorem dJ2_init_2_1 : decode cJ2_init_2 1 = .ok (.invokespecial 1, 3) := by decide +kernel
theorem dJ2_init_2_4 : decode cJ2_init_2 4 = .ok (.return_, 1) := by decide +kernel
theorem dJ2_init_3_0 : decode cJ2_init_3 0 = .ok (.aload_n 0, 1) := by decide +kernel
theorem dJ2_init_3_1 : decode cJ2_init_3 1 = .ok (.aload_n 1, 1) := by decide +kernel
theorem dJ2_init_3_2 : decode cJ2_init_3 2 = .ok (.invokespecial 7, 3) := by decide +kernel
theorem dJ2_init_3_5 : decode cJ2_init_3 5 = .ok (.return_, 1) := by decide +kernel
theorem dJ3_init_0 : decode cJ3_init 0 = .ok (.aload_n 0, 1) := by decide +kernel
theorem dJ3_init_1 : decode cJ3_init 1 = .ok (.invokespecial 1, 3) := by decide +kernel
theorem dJ3_init_4 : decode cJ3_init 4 = .ok (.return_, 1) := by decide +kernel
theorem dJ4_init_0 : decode cJ4_init 0 = .ok (.aload_n 0, 1) := by decide +kernel
theorem dJ4_init_1 : decode cJ4_init 1 = .ok (.invokespecial 1, 3) := by decide +kernel
theorem dJ4_init_4 : decode cJ4_init 4 = .ok (.return_, 1) := by decide +kernel
theorem dJ5_init_0 : decode cJ5_init 0 = .ok (.aload_n 0, 1) := by decide +kernel
theorem dJ5_init_1 : decode cJ5_init 1 = .ok (.aload_n 1, 1) := by decide +kernel
theorem dJ5_init_2 : decode cJ5_init 2 = .ok (.invokespecial 7, 3) := by decide +kernel
theorem dJ5_init_5 : decode cJ5_init 5 = .ok (.return_, 1) := by decide +kernel
theorem dJ5_init_2_0 : decode cJ5_init_2 0 = .ok (.aload_n 0, 1) := by decide +kernel
theorem dJ5_init_2_1 : decode cJ5_init_2 1 = .ok (.invokespecial 1, 3) := by decide +kernel
theorem dJ5_init_2_4 : decode cJ5_init_2 4 = .ok (.return_, 1) := by decide +kernel
theorem dJ6_init_0 : decode cJ6_init 0 = .ok (.aload_n 0, 1) := by decide +kernel
theorem dJ6_init_1 : decode cJ6_init 1 = .ok (.aload_n 1, 1) := by decide +kernel
theorem dJ6_init_2 : decode cJ6_init 2 = .ok (.invokespecial 7, 3) := by decide +kernel
theorem dJ6_init_5 : decode cJ6_init 5 = .ok (.return_, 1) := by decide +kernel
theorem dJ7_length_0 : decode cJ7_length 0 = .ok (.aload_n 0, 1) := by decide +kernel
theorem dJ7_length_1 : decode cJ7_length 1 = .ok (.getfield 9, 3) := by decide +kernel
theorem dJ7_length_4 : decode cJ7_length 4 = .ok (.arraylength, 1) := by decide +kernel
theorem dJ7_length_5 : decode cJ7_length 5 = .ok (.aload_n 0, 1) := by decide +kernel
theorem dJ7_length_6 : decode cJ7_length 6 = .ok (.invokevirtual 335, 3) := by decide +kernel
theorem dJ7_length_9 : decode cJ7_length 9 = .ok (.ishr, 1) := by decide +kernel
theorem dJ7_length_10 : decode cJ7_length 10 = .ok (.ireturn, 1) := by decide +kernel
theorem dJ7_coder_0 : decode cJ7_coder 0 = .ok (.getstatic 38, 3) := by decide +kernel
theorem dJ7_coder_3 : decode cJ7_coder 3 = .ok (.ifCond .eq 10, 3) := by decide +kernel
theorem dJ7_coder_6 : decode cJ7_coder 6 = .ok (.aload_n 0, 1) := by decide +kernel
theorem dJ7_coder_7 : decode cJ7_coder 7 = .ok (.getfield 15, 3) := by decide +kernel
theorem dJ7_coder_10 : decode cJ7_coder 10 = .ok (.goto 4, 3) := by decide +kernel
theorem dJ7_coder_13 : decode cJ7_coder 13 = .ok (.iconst 1, 1) := by decide +kernel
theorem dJ7_coder_14 : decode cJ7_coder 14 = .ok (.ireturn, 1) := by decide +kernel
theorem dJ7_charAt_0 : decode cJ7_charAt 0 = .ok (.aload_n 0, 1) := by decide +kernel
theorem dJ7_charAt_1 : decode cJ7_charAt 1 = .ok (.invokevirtual 492, 3) := by decide +kernel
theorem dJ7_charAt_4 : decode cJ7_charAt 4 = .ok (.ifCond .eq 12, 3) := by decide +kernel
theorem dJ7_charAt_7 : decode cJ7_charAt 7 = .ok (.aload_n 0, 1) := by decide +kernel
theorem dJ7_charAt_8 : decode cJ7_charAt 8 = .ok (.getfield 9, 3) := by decide +kernel
theorem dJ7_charAt_11 : decode cJ7_charAt 11 = .ok (.iload_n 1, 1) := by decide +kernel
theorem dJ7_charAt_12 : decode cJ7_charAt 12 = .ok (.invokestatic 495, 3) := by decide +kernel
theorem dJ7_charAt_15 : decode cJ7_charAt 15 = .ok (.ireturn, 1) := by decide +kernel
theorem dJ7_charAt_16 : decode cJ7_charAt 16 = .ok (.aload_n 0, 1) := by decide +kernel
theorem dJ7_charAt_17 : decode cJ7_charAt 17 = .ok (.getfield 9, 3) := by decide +kernel
theorem dJ7_charAt_20 : decode cJ7_charAt 20 = .ok (.iload_n 1, 1) := by decide +kernel
theorem dJ7_charAt_21 : decode cJ7_charAt 21 = .ok (.invokestatic 498, 3) := by decide +kernel
theorem dJ7_charAt_24 : decode cJ7_charAt 24 = .ok (.ireturn, 1) := by decide +kernel
theorem dJ7_isLatin1_0 : decode cJ7_isLatin1 0 = .ok (.getstatic 38, 3) := by decide +kernel
theorem dJ7_isLatin1_3 : decode cJ7_isLatin1 3 = .ok (.ifCond .eq 14, 3) := by decide +kernel
theorem dJ7_isLatin1_6 : decode cJ7_isLatin1 6 = .ok (.aload_n 0, 1) := by decide +kernel
theorem dJ7_isLatin1_7 : decode cJ7_isLatin1 7 = .ok (.getfield 15, 3) := by decide +kernel
theorem dJ7_isLatin1_10 : decode cJ7_isLatin1 10 = .ok (.ifCond .ne 7, 3) := by decide +kernel
theorem dJ7_isLatin1_13 : decode cJ7_isLatin1 13 = .ok (.iconst 1, 1) := by decide +kernel
theorem dJ7_isLatin1_14 : decode cJ7_isLatin1 14 = .ok (.goto 4, 3) := by decide +kernel
theorem dJ7_isLatin1_17 : decode cJ7_isLatin1 17 = .ok (.iconst 0, 1) := by decide +kernel
theorem dJ7_isLatin1_18 : decode cJ7_isLatin1 18 = .ok (.ireturn, 1) := by decide +kernel
theorem dJ7_checkIndex_0 : decode cJ7_checkIndex 0 = .ok (.iload_n 0, 1) := by decide +kernel
theorem dJ7_checkIndex_1 : decode cJ7_checkIndex 1 = .ok (.iload_n 1, 1) := by decide +kernel
theorem dJ7_checkIndex_2 : decode cJ7_checkIndex 2 = .ok (.getstatic 1053, 3) := by decide +kernel
theorem dJ7_checkIndex_5 : decode cJ7_checkIndex 5 = .ok (.invokestatic 1059, 3) := by decide +kernel
theorem dJ7_checkIndex_8 : decode cJ7_checkIndex 8 = .ok (.pop, 1) := by decide +kernel
theorem dJ7_checkIndex_9 : decode cJ7_checkIndex 9 = .ok (.return_, 1) := by decide +kernel
theorem dJ8_init_0 : decode cJ8_init 0 = .ok (.aload_n 0, 1) := by decide +kernel
theorem dJ8_init_1 : decode cJ8_init 1 = .ok (.invokespecial 1, 3) := by decide +kernel
theorem dJ8_init_4 : decode cJ8_init 4 = .ok (.return_, 1) := by decide +kernel
theorem dJ9_max_0 : decode cJ9_max 0 = .ok (.iload_n 0, 1) := by decide +kernel
theorem dJ9_max_1 : decode cJ9_max 1 = .ok (.iload_n 1, 1) := by decide +kernel
theorem dJ9_max_2 : decode cJ9_max 2 = .ok (.if_icmp .lt 7, 3) := by decide +kernel
theorem dJ9_max_5 : decode cJ9_max 5 = .ok (.iload_n 0, 1) := by decide +kernel
theorem dJ9_max_6 : decode cJ9_max 6 = .ok (.goto 4, 3) := by decide +kernel
theorem dJ9_max_9 : decode cJ9_max 9 = .ok (.iload_n 1, 1) := by decide +kernel
theorem dJ9_max_10 : decode cJ9_max 10 = .ok (.ireturn, 1) := by decide +kernel
theorem dJ9_min_0 : decode cJ9_min 0 = .ok (.iload_n 0, 1) := by decide +kernel
theorem dJ9_min_1 : decode cJ9_min 1 = .ok (.iload_n 1, 1) := by decide +kernel
theorem dJ9_min_2 : decode cJ9_min 2 = .ok (.if_icmp .gt 7, 3) := by decide +kernel
theorem dJ9_min_5 : decode cJ9_min 5 = .ok (.iload_n 0, 1) := by decide +kernel
theorem dJ9_min_6 : decode cJ9_min 6 = .ok (.goto 4, 3) := by decide +kernel
theorem dJ9_min_9 : decode cJ9_min 9 = .ok (.iload_n 1, 1) := by decide +kernel
theorem dJ9_min_10 : decode cJ9_min 10 = .ok (.ireturn, 1) := by decide +kernel
theorem dJ9_abs_0 : decode cJ9_abs 0 = .ok (.iload_n 0, 1) := by decide +kernel
theorem dJ9_abs_1 : decode cJ9_abs 1 = .ok (.ifCond .ge 8, 3) := by decide +kernel
theorem dJ9_abs_4 : decode cJ9_abs 4 = .ok (.iload_n 0, 1) := by decide +kernel
theorem dJ9_abs_5 : decode cJ9_abs 5 = .ok (.ineg, 1) := by decide +kernel
theorem dJ9_abs_6 : decode cJ9_abs 6 = .ok (.goto 4, 3) := by decide +kernel
theorem dJ9_abs_9 : decode cJ9_abs 9 = .ok (.iload_n 0, 1) := by decide +kernel
theorem dJ9_abs_10 : decode cJ9_abs 10 = .ok (.ireturn, 1) := by decide +kernel
