set_option maxRecDepth 100000
theorem dX2_init_0 : decode cX2_init 0 = .ok (.aload_n 0, 1) := by decide +kernel
theorem dX2_init_1 : decode cX2_init 1 = .ok (.invokespecial 3, 3) := by decide +kernel
theorem dX2_init_4 : decode cX2_init 4 = .ok (.aload_n 0, 1) := by decide +kernel
theorem dX2_init_5 : decode cX2_init 5 = .ok (.sipush 400, 3) := by decide +kernel
theorem dX2_init_8 : decode cX2_init 8 = .ok (.newarray .byte, 2) := by decide +kernel
theorem dX2_init_10 : decode cX2_init 10 = .ok (.putfield 9, 3) := by decide +kernel
theorem dX2_init_13 : decode cX2_init 13 = .ok (.aload_n 0, 1) := by decide +kernel
theorem dX2_init_14 : decode cX2_init 14 = .ok (.bipush 6, 2) := by decide +kernel
theorem dX2_init_16 : decode cX2_init 16 = .ok (.anewarray 15, 3) := by decide +kernel
theorem dX2_init_19 : decode cX2_init 19 = .ok (.dup, 1) := by decide +kernel
theorem dX2_init_20 : decode cX2_init 20 = .ok (.iconst 0, 1) := by decide +kernel
theorem dX2_init_21 : decode cX2_init 21 = .ok (.ldc 17, 2) := by decide +kernel
theorem dX2_init_23 : decode cX2_init 23 = .ok (.aastore, 1) := by decide +kernel
theorem dX2_init_24 : decode cX2_init 24 = .ok (.dup, 1) := by decide +kernel
theorem dX2_init_25 : decode cX2_init 25 = .ok (.iconst 1, 1) := by decide +kernel
theorem dX2_init_26 : decode cX2_init 26 = .ok (.ldc 19, 2) := by decide +kernel
theorem dX2_init_28 : decode cX2_init 28 = .ok (.aastore, 1) := by decide +kernel
theorem dX2_init_29 : decode cX2_init 29 = .ok (.dup, 1) := by decide +kernel
theorem dX2_init_30 : decode cX2_init 30 = .ok (.iconst 2, 1) := by decide +kernel
theorem dX2_init_31 : decode cX2_init 31 = .ok (.ldc 21, 2) := by decide +kernel
theorem dX2_init_33 : decode cX2_init 33 = .ok (.aastore, 1) := by decide +kernel
theorem dX2_init_34 : decode cX2_init 34 = .ok (.dup, 1) := by decide +kernel
theorem dX2_init_35 : decode cX2_init 35 = .ok (.iconst 3, 1) := by decide +kernel
theorem dX2_init_36 : decode cX2_init 36 = .ok (.ldc 23, 2) := by decide +kernel
theorem dX2_init_38 : decode cX2_init 38 = .ok (.aastore, 1) := by decide +kernel
theorem dX2_init_39 : decode cX2_init 39 = .ok (.dup, 1) := by decide +kernel
theorem dX2_init_40 : decode cX2_init 40 = .ok (.iconst 4, 1) := by decide +kernel
theorem dX2_init_41 : decode cX2_init 41 = .ok (.ldc 25, 2) := by decide +kernel
theorem dX2_init_43 : decode cX2_init 43 = .ok (.aastore, 1) := by decide +kernel
theorem dX2_init_44 : decode cX2_init 44 = .ok (.dup, 1) := by decide +kernel
theorem dX2_init_45 : decode cX2_init 45 = .ok (.iconst 5, 1) := by decide +kernel
theorem dX2_init_46 : decode cX2_init 46 = .ok (.ldc 27, 2) := by decide +kernel
theorem dX2_init_48 : decode cX2_init 48 = .ok (.aastore, 1) := by decide +kernel
theorem dX2_init_49 : decode cX2_init 49 = .ok (.putfield 29, 3) := by decide +kernel
theorem dX2_init_52 : decode cX2_init 52 = .ok (.aload_n 0, 1) := by decide +kernel
theorem dX2_init_53 : decode cX2_init 53 = .ok (.new 33, 3) := by decide +kernel
theorem dX2_init_56 : decode cX2_init 56 = .ok (.dup, 1) := by decide +kernel
theorem dX2_init_57 : decode cX2_init 57 = .ok (.invokespecial 35, 3) := by decide +kernel
theorem dX2_init_60 : decode cX2_init 60 = .ok (.putfield 36, 3) := by decide +kernel
theorem dX2_init_63 : decode cX2_init 63 = .ok (.return_, 1) := by decide +kernel
theorem dX2_read_0 : decode cX2_read 0 = .ok (.aload_n 0, 1) := by decide +kernel
theorem dX2_read_1 : decode cX2_read 1 = .ok (.iload_n 1, 1) := by decide +kernel
theorem dX2_read_2 : decode cX2_read 2 = .ok (.putfield 47, 3) := by decide +kernel
theorem dX2_read_5 : decode cX2_read 5 = .ok (.aload_n 0, 1) := by decide +kernel
theorem dX2_read_6 : decode cX2_read 6 = .ok (.iconst 0, 1) := by decide +kernel
theorem dX2_read_7 : decode cX2_read 7 = .ok (.putfield 44, 3) := by decide +kernel
theorem dX2_read_10 : decode cX2_read 10 = .ok (.iconst 0, 1) := by decide +kernel
theorem dX2_read_11 : decode cX2_read 11 = .ok (.istore_n 3, 1) := by decide +kernel
theorem dX2_read_12 : decode cX2_read 12 = .ok (.iconst 1, 1) := by decide +kernel
theorem dX2_read_13 : decode cX2_read 13 = .ok (.istore 4, 2) := by decide +kernel
theorem dX2_read_15 : decode cX2_read 15 = .ok (.iload 4, 2) := by decide +kernel
theorem dX2_read_17 : decode cX2_read 17 = .ok (.ifCond .eq 99, 3) := by decide +kernel
theorem dX2_read_20 : decode cX2_read 20 = .ok (.aload_n 0, 1) := by decide +kernel
theorem dX2_read_21 : decode cX2_read 21 = .ok (.iconst 0, 1) := by decide +kernel
theorem dX2_read_22 : decode cX2_read 22 = .ok (.iconst 4, 1) := by decide +kernel
theorem dX2_read_23 : decode cX2_read 23 = .ok (.invokevirtual 65, 3) := by decide +kernel
theorem dX2_read_26 : decode cX2_read 26 = .ok (.istore 5, 2) := by decide +kernel
theorem dX2_read_28 : decode cX2_read 28 = .ok (.aload_n 2, 1) := by decide +kernel
theorem dX2_read_29 : decode cX2_read 29 = .ok (.iload 5, 2) := by decide +kernel
theorem dX2_read_31 : decode cX2_read 31 = .ok (.iload 5, 2) := by decide +kernel
theorem dX2_read_33 : decode cX2_read 33 = .ok (.iconst 2, 1) := by decide +kernel
theorem dX2_read_34 : decode cX2_read 34 = .ok (.if_icmp .ne 15, 3) := by decide +kernel
theorem dX2_read_37 : decode cX2_read 37 = .ok (.aload_n 0, 1) := by decide +kernel
theorem dX2_read_38 : decode cX2_read 38 = .ok (.iconst 4, 1) := by decide +kernel
theorem dX2_read_39 : decode cX2_read 39 = .ok (.bipush 6, 2) := by decide +kernel
theorem dX2_read_41 : decode cX2_read 41 = .ok (.invokevirtual 65, 3) := by decide +kernel
theorem dX2_read_44 : decode cX2_read 44 = .ok (.iconst 4, 1) := by decide +kernel
theorem dX2_read_45 : decode cX2_read 45 = .ok (.isub, 1) := by decide +kernel
theorem dX2_read_46 : decode cX2_read 46 = .ok (.goto 13, 3) := by decide +kernel
theorem dX2_read_49 : decode cX2_read 49 = .ok (.aload_n 0, 1) := by decide +kernel
theorem dX2_read_50 : decode cX2_read 50 = .ok (.getstatic 69, 3) := by decide +kernel
theorem dX2_read_53 : decode cX2_read 53 = .ok (.iload 5, 2) := by decide +kernel
theorem dX2_read_55 : decode cX2_read 55 = .ok (.iaload, 1) := by decide +kernel
theorem dX2_read_56 : decode cX2_read 56 = .ok (.invokevirtual 73, 3) := by decide +kernel
theorem dX2_read_59 : decode cX2_read 59 = .ok (.iastore, 1) := by decide +kernel
theorem dX2_read_60 : decode cX2_read 60 = .ok (.iinc 3 1, 3) := by decide +kernel
theorem dX2_read_63 : decode cX2_read 63 = .ok (.aload_n 0, 1) := by decide +kernel
theorem dX2_read_64 : decode cX2_read 64 = .ok (.invokevirtual 50, 3) := by decide +kernel
theorem dX2_read_67 : decode cX2_read 67 = .ok (.bipush 59, 2) := by decide +kernel
theorem dX2_read_69 : decode cX2_read 69 = .ok (.if_icmp .ne 7, 3) := by decide +kernel
theorem dX2_read_72 : decode cX2_read 72 = .ok (.iconst 1, 1) := by decide +kernel
theorem dX2_read_73 : decode cX2_read 73 = .ok (.goto 4, 3) := by decide +kernel
theorem dX2_read_76 : decode cX2_read 76 = .ok (.iconst 0, 1) := by decide +kernel
theorem dX2_read_77 : decode cX2_read 77 = .ok (.istore 4, 2) := by decide +kernel
theorem dX2_read_79 : decode cX2_read 79 = .ok (.iload 4, 2) := by decide +kernel
theorem dX2_read_81 : decode cX2_read 81 = .ok (.ifCond .eq 16, 3) := by decide +kernel
theorem dX2_read_84 : decode cX2_read 84 = .ok (.aload_n 0, 1) := by decide +kernel
theorem dX2_read_85 : decode cX2_read 85 = .ok (.dup, 1) := by decide +kernel
theorem dX2_read_86 : decode cX2_read 86 = .ok (.getfield 44, 3) := by decide +kernel
theorem dX2_read_89 : decode cX2_read 89 = .ok (.iconst 1, 1) := by decide +kernel
theorem dX2_read_90 : decode cX2_read 90 = .ok (.iadd, 1) := by decide +kernel
theorem dX2_read_91 : decode cX2_read 91 = .ok (.putfield 44, 3) := by decide +kernel
theorem dX2_read_94 : decode cX2_read 94 = .ok (.goto 19, 3) := by decide +kernel
theorem dX2_read_97 : decode cX2_read 97 = .ok (.aload_n 0, 1) := by decide +kernel
theorem dX2_read_98 : decode cX2_read 98 = .ok (.invokevirtual 50, 3) := by decide +kernel
theorem dX2_read_101 : decode cX2_read 101 = .ok (.iconst (-1), 1) := by decide +kernel
theorem dX2_read_102 : decode cX2_read 102 = .ok (.if_icmp .eq 11, 3) := by decide +kernel
theorem dX2_read_105 : decode cX2_read 105 = .ok (.aload_n 0, 1) := by decide +kernel
theorem dX2_read_106 : decode cX2_read 106 = .ok (.aload_n 0, 1) := by decide +kernel
theorem dX2_read_107 : decode cX2_read 107 = .ok (.getfield 44, 3) := by decide +kernel
theorem dX2_read_110 : decode cX2_read 110 = .ok (.invokevirtual 61, 3) := by decide +kernel
theorem dX2_read_113 : decode cX2_read 113 = .ok (.goto (-98), 3) := by decide +kernel
theorem dX2_read_116 : decode cX2_read 116 = .ok (.iload_n 3, 1) := by decide +kernel
theorem dX2_read_117 : decode cX2_read 117 = .ok (.ireturn, 1) := by decide +kernel
theorem dX2_word_0 : decode cX2_word 0 = .ok (.aload_n 0, 1) := by decide +kernel
theorem dX2_word_1 : decode cX2_word 1 = .ok (.invokevirtual 50, 3) := by decide +kernel
theorem dX2_word_4 : decode cX2_word 4 = .ok (.istore_n 3, 1) := by decide +kernel
theorem dX2_word_5 : decode cX2_word 5 = .ok (.aload_n 0, 1) := by decide +kernel
theorem dX2_word_6 : decode cX2_word 6 = .ok (.getfield 44, 3) := by decide +kernel
theorem dX2_word_9 : decode cX2_word 9 = .ok (.istore 4, 2) := by decide +kernel
theorem dX2_word_11 : decode cX2_word 11 = .ok (.iload 4, 2) := by decide +kernel
theorem dX2_word_13 : decode cX2_word 13 = .ok (.aload_n 0, 1) := by decide +kernel
theorem dX2_word_14 : decode cX2_word 14 = .ok (.getfield 47, 3) := by decide +kernel
theorem dX2_word_17 : decode cX2_word 17 = .ok (.if_icmp .ge 33, 3) := by decide +kernel
theorem dX2_word_20 : decode cX2_word 20 = .ok (.aload_n 0, 1) := by decide +kernel
theorem dX2_word_21 : decode cX2_word 21 = .ok (.getfield 9, 3) := by decide +kernel
theorem dX2_word_24 : decode cX2_word 24 = .ok (.iload 4, 2) := by decide +kernel
theorem dX2_word_26 : decode cX2_word 26 = .ok (.baload, 1) := by decide +kernel
theorem dX2_word_27 : decode cX2_word 27 = .ok (.bipush 97, 2) := by decide +kernel
theorem dX2_word_29 : decode cX2_word 29 = .ok (.if_icmp .lt 21, 3) := by decide +kernel
theorem dX2_word_32 : decode cX2_word 32 = .ok (.aload_n 0, 1) := by decide +kernel
theorem dX2_word_33 : decode cX2_word 33 = .ok (.getfield 9, 3) := by decide +kernel
theorem dX2_word_36 : decode cX2_word 36 = .ok (.iload 4, 2) := by decide +kernel
theorem dX2_word_38 : decode cX2_word 38 = .ok (.baload, 1) := by decide +kernel
theorem dX2_word_39 : decode cX2_word 39 = .ok (.bipush 122, 2) := by decide +kernel
theorem dX2_word_41 : decode cX2_word 41 = .ok (.if_icmp .gt 9, 3) := by decide +kernel
theorem dX2_word_44 : decode cX2_word 44 = .ok (.iinc 4 1, 3) := by decide +kernel
theorem dX2_word_47 : decode cX2_word 47 = .ok (.goto (-36), 3) := by decide +kernel
theorem dX2_word_50 : decode cX2_word 50 = .ok (.iload_n 1, 1) := by decide +kernel
theorem dX2_word_51 : decode cX2_word 51 = .ok (.istore 5, 2) := by decide +kernel
theorem dX2_word_53 : decode cX2_word 53 = .ok (.iload 5, 2) := by decide +kernel
theorem dX2_word_55 : decode cX2_word 55 = .ok (.iload_n 2, 1) := by decide +kernel
theorem dX2_word_56 : decode cX2_word 56 = .ok (.if_icmp .ge 113, 3) := by decide +kernel
theorem dX2_word_59 : decode cX2_word 59 = .ok (.aload_n 0, 1) := by decide +kernel
theorem dX2_word_60 : decode cX2_word 60 = .ok (.getfield 29, 3) := by decide +kernel
theorem dX2_word_63 : decode cX2_word 63 = .ok (.iload 5, 2) := by decide +kernel
theorem dX2_word_65 : decode cX2_word 65 = .ok (.aaload, 1) := by decide +kernel
theorem dX2_word_66 : decode cX2_word 66 = .ok (.invokevirtual 54, 3) := by decide +kernel
theorem dX2_word_69 : decode cX2_word 69 = .ok (.iload 4, 2) := by decide +kernel
theorem dX2_word_71 : decode cX2_word 71 = .ok (.aload_n 0, 1) := by decide +kernel
theorem dX2_word_72 : decode cX2_word 72 = .ok (.getfield 44, 3) := by decide +kernel
theorem dX2_word_75 : decode cX2_word 75 = .ok (.isub, 1) := by decide +kernel
theorem dX2_word_76 : decode cX2_word 76 = .ok (.if_icmp .ne 7, 3) := by decide +kernel
theorem dX2_word_79 : decode cX2_word 79 = .ok (.iconst 1, 1) := by decide +kernel
theorem dX2_word_80 : decode cX2_word 80 = .ok (.goto 4, 3) := by decide +kernel
theorem dX2_word_83 : decode cX2_word 83 = .ok (.iconst 0, 1) := by decide +kernel
theorem dX2_word_84 : decode cX2_word 84 = .ok (.istore 6, 2) := by decide +kernel
theorem dX2_word_86 : decode cX2_word 86 = .ok (.iconst 0, 1) := by decide +kernel
theorem dX2_word_87 : decode cX2_word 87 = .ok (.istore 7, 2) := by decide +kernel
theorem dX2_word_89 : decode cX2_word 89 = .ok (.iload 7, 2) := by decide +kernel
theorem dX2_word_91 : decode cX2_word 91 = .ok (.iload 4, 2) := by decide +kernel
theorem dX2_word_93 : decode cX2_word 93 = .ok (.aload_n 0, 1) := by decide +kernel
theorem dX2_word_94 : decode cX2_word 94 = .ok (.getfield 44, 3) := by decide +kernel
theorem dX2_word_97 : decode cX2_word 97 = .ok (.isub, 1) := by decide +kernel
theorem dX2_word_98 : decode cX2_word 98 = .ok (.if_icmp .ge 48, 3) := by decide +kernel
theorem dX2_word_101 : decode cX2_word 101 = .ok (.iload 6, 2) := by decide +kernel
theorem dX2_word_103 : decode cX2_word 103 = .ok (.ifCond .eq 43, 3) := by decide +kernel
theorem dX2_word_106 : decode cX2_word 106 = .ok (.aload_n 0, 1) := by decide +kernel
theorem dX2_word_107 : decode cX2_word 107 = .ok (.getfield 29, 3) := by decide +kernel
theorem dX2_word_110 : decode cX2_word 110 = .ok (.iload 5, 2) := by decide +kernel
theorem dX2_word_112 : decode cX2_word 112 = .ok (.aaload, 1) := by decide +kernel
theorem dX2_word_113 : decode cX2_word 113 = .ok (.iload 7, 2) := by decide +kernel
theorem dX2_word_115 : decode cX2_word 115 = .ok (.invokevirtual 57, 3) := by decide +kernel
theorem dX2_word_118 : decode cX2_word 118 = .ok (.aload_n 0, 1) := by decide +kernel
theorem dX2_word_119 : decode cX2_word 119 = .ok (.getfield 9, 3) := by decide +kernel
theorem dX2_word_122 : decode cX2_word 122 = .ok (.aload_n 0, 1) := by decide +kernel
theorem dX2_word_123 : decode cX2_word 123 = .ok (.getfield 44, 3) := by decide +kernel
theorem dX2_word_126 : decode cX2_word 126 = .ok (.iload 7, 2) := by decide +kernel
theorem dX2_word_128 : decode cX2_word 128 = .ok (.iadd, 1) := by decide +kernel
theorem dX2_word_129 : decode cX2_word 129 = .ok (.baload, 1) := by decide +kernel
theorem dX2_word_130 : decode cX2_word 130 = .ok (.if_icmp .ne 7, 3) := by decide +kernel
theorem dX2_word_133 : decode cX2_word 133 = .ok (.iconst 1, 1) := by decide +kernel
theorem dX2_word_134 : decode cX2_word 134 = .ok (.goto 4, 3) := by decide +kernel
theorem dX2_word_137 : decode cX2_word 137 = .ok (.iconst 0, 1) := by decide +kernel
theorem dX2_word_138 : decode cX2_word 138 = .ok (.istore 6, 2) := by decide +kernel
theorem dX2_word_140 : decode cX2_word 140 = .ok (.iinc 7 1, 3) := by decide +kernel
theorem dX2_word_143 : decode cX2_word 143 = .ok (.goto (-54), 3) := by decide +kernel
theorem dX2_word_146 : decode cX2_word 146 = .ok (.iload 6, 2) := by decide +kernel
theorem dX2_word_148 : decode cX2_word 148 = .ok (.ifCond .ne 6, 3) := by decide +kernel
theorem dX2_word_151 : decode cX2_word 151 = .ok (.goto 12, 3) := by decide +kernel
theorem dX2_word_154 : decode cX2_word 154 = .ok (.aload_n 0, 1) := by decide +kernel
theorem dX2_word_155 : decode cX2_word 155 = .ok (.iload 4, 2) := by decide +kernel
theorem dX2_word_157 : decode cX2_word 157 = .ok (.putfield 44, 3) := by decide +kernel
theorem dX2_word_160 : decode cX2_word 160 = .ok (.iload 5, 2) := by decide +kernel
theorem dX2_word_162 : decode cX2_word 162 = .ok (.ireturn, 1) := by decide +kernel
theorem dX2_word_163 : decode cX2_word 163 = .ok (.iinc 5 1, 3) := by decide +kernel
theorem dX2_word_166 : decode cX2_word 166 = .ok (.goto (-113), 3) := by decide +kernel
theorem dX2_word_169 : decode cX2_word 169 = .ok (.aload_n 0, 1) := by decide +kernel
theorem dX2_word_170 : decode cX2_word 170 = .ok (.aload_n 0, 1) := by decide +kernel
theorem dX2_word_171 : decode cX2_word 171 = .ok (.getfield 44, 3) := by decide +kernel
theorem dX2_word_174 : decode cX2_word 174 = .ok (.invokevirtual 61, 3) := by decide +kernel
theorem dX2_word_177 : decode cX2_word 177 = .ok (.iconst (-1), 1) := by decide +kernel
theorem dX2_word_178 : decode cX2_word 178 = .ok (.ireturn, 1) := by decide +kernel
theorem dX2_sign_0 : decode cX2_sign 0 = .ok (.aload_n 0, 1) := by decide +kernel
theorem dX2_sign_1 : decode cX2_sign 1 = .ok (.getfield 44, 3) := by decide +kernel
theorem dX2_sign_4 : decode cX2_sign 4 = .ok (.aload_n 0, 1) := by decide +kernel
theorem dX2_sign_5 : decode cX2_sign 5 = .ok (.getfield 47, 3) := by decide +kernel
theorem dX2_sign_8 : decode cX2_sign 8 = .ok (.if_icmp .ge 30, 3) := by decide +kernel
theorem dX2_sign_11 : decode cX2_sign 11 = .ok (.aload_n 0, 1) := by decide +kernel
theorem dX2_sign_12 : decode cX2_sign 12 = .ok (.getfield 9, 3) := by decide +kernel
theorem dX2_sign_15 : decode cX2_sign 15 = .ok (.aload_n 0, 1) := by decide +kernel
theorem dX2_sign_16 : decode cX2_sign 16 = .ok (.getfield 44, 3) := by decide +kernel
theorem dX2_sign_19 : decode cX2_sign 19 = .ok (.baload, 1) := by decide +kernel
theorem dX2_sign_20 : decode cX2_sign 20 = .ok (.bipush 32, 2) := by decide +kernel
theorem dX2_sign_22 : decode cX2_sign 22 = .ok (.if_icmp .ne 16, 3) := by decide +kernel
theorem dX2_sign_25 : decode cX2_sign 25 = .ok (.aload_n 0, 1) := by decide +kernel
theorem dX2_sign_26 : decode cX2_sign 26 = .ok (.dup, 1) := by decide +kernel
theorem dX2_sign_27 : decode cX2_sign 27 = .ok (.getfield 44, 3) := by decide +kernel
theorem dX2_sign_30 : decode cX2_sign 30 = .ok (.iconst 1, 1) := by decide +kernel
theorem dX2_sign_31 : decode cX2_sign 31 = .ok (.iadd, 1) := by decide +kernel
theorem dX2_sign_32 : decode cX2_sign 32 = .ok (.putfield 44, 3) := by decide +kernel
theorem dX2_sign_35 : decode cX2_sign 35 = .ok (.goto (-35), 3) := by decide +kernel
theorem dX2_sign_38 : decode cX2_sign 38 = .ok (.aload_n 0, 1) := by decide +kernel
theorem dX2_sign_39 : decode cX2_sign 39 = .ok (.getfield 44, 3) := by decide +kernel
theorem dX2_sign_42 : decode cX2_sign 42 = .ok (.aload_n 0, 1) := by decide +kernel
theorem dX2_sign_43 : decode cX2_sign 43 = .ok (.getfield 47, 3) := by decide +kernel
theorem dX2_sign_46 : decode cX2_sign 46 = .ok (.if_icmp .ge 19, 3) := by decide +kernel
theorem dX2_sign_49 : decode cX2_sign 49 = .ok (.aload_n 0, 1) := by decide +kernel
theorem dX2_sign_50 : decode cX2_sign 50 = .ok (.getfield 9, 3) := by decide +kernel
theorem dX2_sign_53 : decode cX2_sign 53 = .ok (.aload_n 0, 1) := by decide +kernel
theorem dX2_sign_54 : decode cX2_sign 54 = .ok (.getfield 44, 3) := by decide +kernel
theorem dX2_sign_57 : decode cX2_sign 57 = .ok (.baload, 1) := by decide +kernel
theorem dX2_sign_58 : decode cX2_sign 58 = .ok (.sipush 255, 3) := by decide +kernel
theorem dX2_sign_61 : decode cX2_sign 61 = .ok (.iand, 1) := by decide +kernel
theorem dX2_sign_62 : decode cX2_sign 62 = .ok (.goto 4, 3) := by decide +kernel
theorem dX2_sign_65 : decode cX2_sign 65 = .ok (.iconst (-1), 1) := by decide +kernel
theorem dX2_sign_66 : decode cX2_sign 66 = .ok (.ireturn, 1) := by decide +kernel
theorem dX2_fail_0 : decode cX2_fail 0 = .ok (.aload_n 0, 1) := by decide +kernel
theorem dX2_fail_1 : decode cX2_fail 1 = .ok (.getfield 36, 3) := by decide +kernel
theorem dX2_fail_4 : decode cX2_fail 4 = .ok (.iload_n 1, 1) := by decide +kernel
theorem dX2_fail_5 : decode cX2_fail 5 = .ok (.putfield 40, 3) := by decide +kernel
theorem dX2_fail_8 : decode cX2_fail 8 = .ok (.aload_n 0, 1) := by decide +kernel
theorem dX2_fail_9 : decode cX2_fail 9 = .ok (.getfield 36, 3) := by decide +kernel
theorem dX2_fail_12 : decode cX2_fail 12 = .ok (.athrow, 1) := by decide +kernel
theorem dX2_number_0 : decode cX2_number 0 = .ok (.aload_n 0, 1) := by decide +kernel
theorem dX2_number_1 : decode cX2_number 1 = .ok (.invokevirtual 50, 3) := by decide +kernel
theorem dX2_number_4 : decode cX2_number 4 = .ok (.istore_n 2, 1) := by decide +kernel
theorem dX2_number_5 : decode cX2_number 5 = .ok (.aload_n 0, 1) := by decide +kernel
theorem dX2_number_6 : decode cX2_number 6 = .ok (.getfield 44, 3) := by decide +kernel
theorem dX2_number_9 : decode cX2_number 9 = .ok (.istore_n 3, 1) := by decide +kernel
theorem dX2_number_10 : decode cX2_number 10 = .ok (.iconst 0, 1) := by decide +kernel
theorem dX2_number_11 : decode cX2_number 11 = .ok (.istore 4, 2) := by decide +kernel
theorem dX2_number_13 : decode cX2_number 13 = .ok (.aload_n 0, 1) := by decide +kernel
theorem dX2_number_14 : decode cX2_number 14 = .ok (.getfield 44, 3) := by decide +kernel
theorem dX2_number_17 : decode cX2_number 17 = .ok (.aload_n 0, 1) := by decide +kernel
theorem dX2_number_18 : decode cX2_number 18 = .ok (.getfield 47, 3) := by decide +kernel
theorem dX2_number_21 : decode cX2_number 21 = .ok (.if_icmp .ge 79, 3) := by decide +kernel
theorem dX2_number_24 : decode cX2_number 24 = .ok (.aload_n 0, 1) := by decide +kernel
theorem dX2_number_25 : decode cX2_number 25 = .ok (.getfield 9, 3) := by decide +kernel
theorem dX2_number_28 : decode cX2_number 28 = .ok (.aload_n 0, 1) := by decide +kernel
theorem dX2_number_29 : decode cX2_number 29 = .ok (.getfield 44, 3) := by decide +kernel
theorem dX2_number_32 : decode cX2_number 32 = .ok (.baload, 1) := by decide +kernel
theorem dX2_number_33 : decode cX2_number 33 = .ok (.bipush 48, 2) := by decide +kernel
theorem dX2_number_35 : decode cX2_number 35 = .ok (.if_icmp .lt 65, 3) := by decide +kernel
theorem dX2_number_38 : decode cX2_number 38 = .ok (.aload_n 0, 1) := by decide +kernel
theorem dX2_number_39 : decode cX2_number 39 = .ok (.getfield 9, 3) := by decide +kernel
theorem dX2_number_42 : decode cX2_number 42 = .ok (.aload_n 0, 1) := by decide +kernel
theorem dX2_number_43 : decode cX2_number 43 = .ok (.getfield 44, 3) := by decide +kernel
theorem dX2_number_46 : decode cX2_number 46 = .ok (.baload, 1) := by decide +kernel
theorem dX2_number_47 : decode cX2_number 47 = .ok (.bipush 57, 2) := by decide +kernel
theorem dX2_number_49 : decode cX2_number 49 = .ok (.if_icmp .gt 51, 3) := by decide +kernel
theorem dX2_number_52 : decode cX2_number 52 = .ok (.aload_n 0, 1) := by decide +kernel
theorem dX2_number_53 : decode cX2_number 53 = .ok (.getfield 44, 3) := by decide +kernel
theorem dX2_number_56 : decode cX2_number 56 = .ok (.iload_n 3, 1) := by decide +kernel
theorem dX2_number_57 : decode cX2_number 57 = .ok (.isub, 1) := by decide +kernel
theorem dX2_number_58 : decode cX2_number 58 = .ok (.iconst 4, 1) := by decide +kernel
theorem dX2_number_59 : decode cX2_number 59 = .ok (.if_icmp .ne 8, 3) := by decide +kernel
theorem dX2_number_62 : decode cX2_number 62 = .ok (.aload_n 0, 1) := by decide +kernel
theorem dX2_number_63 : decode cX2_number 63 = .ok (.iload_n 3, 1) := by decide +kernel
theorem dX2_number_64 : decode cX2_number 64 = .ok (.invokevirtual 61, 3) := by decide +kernel
theorem dX2_number_67 : decode cX2_number 67 = .ok (.bipush 10, 2) := by decide +kernel
theorem dX2_number_69 : decode cX2_number 69 = .ok (.iload 4, 2) := by decide +kernel
theorem dX2_number_71 : decode cX2_number 71 = .ok (.imul, 1) := by decide +kernel
theorem dX2_number_72 : decode cX2_number 72 = .ok (.aload_n 0, 1) := by decide +kernel
theorem dX2_number_73 : decode cX2_number 73 = .ok (.getfield 9, 3) := by decide +kernel
theorem dX2_number_76 : decode cX2_number 76 = .ok (.aload_n 0, 1) := by decide +kernel
theorem dX2_number_77 : decode cX2_number 77 = .ok (.getfield 44, 3) := by decide +kernel
theorem dX2_number_80 : decode cX2_number 80 = .ok (.baload, 1) := by decide +kernel
theorem dX2_number_81 : decode cX2_number 81 = .ok (.iadd, 1) := by decide +kernel
theorem dX2_number_82 : decode cX2_number 82 = .ok (.bipush 48, 2) := by decide +kernel
theorem dX2_number_84 : decode cX2_number 84 = .ok (.isub, 1) := by decide +kernel
theorem dX2_number_85 : decode cX2_number 85 = .ok (.istore 4, 2) := by decide +kernel
theorem dX2_number_87 : decode cX2_number 87 = .ok (.aload_n 0, 1) := by decide +kernel
theorem dX2_number_88 : decode cX2_number 88 = .ok (.dup, 1) := by decide +kernel
theorem dX2_number_89 : decode cX2_number 89 = .ok (.getfield 44, 3) := by decide +kernel
theorem dX2_number_92 : decode cX2_number 92 = .ok (.iconst 1, 1) := by decide +kernel
theorem dX2_number_93 : decode cX2_number 93 = .ok (.iadd, 1) := by decide +kernel
theorem dX2_number_94 : decode cX2_number 94 = .ok (.putfield 44, 3) := by decide +kernel
theorem dX2_number_97 : decode cX2_number 97 = .ok (.goto (-84), 3) := by decide +kernel
theorem dX2_number_100 : decode cX2_number 100 = .ok (.aload_n 0, 1) := by decide +kernel
theorem dX2_number_101 : decode cX2_number 101 = .ok (.getfield 44, 3) := by decide +kernel
theorem dX2_number_104 : decode cX2_number 104 = .ok (.iload_n 3, 1) := by decide +kernel
theorem dX2_number_105 : decode cX2_number 105 = .ok (.if_icmp .eq 9, 3) := by decide +kernel
theorem dX2_number_108 : decode cX2_number 108 = .ok (.iload 4, 2) := by decide +kernel
theorem dX2_number_110 : decode cX2_number 110 = .ok (.iload_n 1, 1) := by decide +kernel
theorem dX2_number_111 : decode cX2_number 111 = .ok (.if_icmp .le 8, 3) := by decide +kernel
theorem dX2_number_114 : decode cX2_number 114 = .ok (.aload_n 0, 1) := by decide +kernel
theorem dX2_number_115 : decode cX2_number 115 = .ok (.iload_n 3, 1) := by decide +kernel
theorem dX2_number_116 : decode cX2_number 116 = .ok (.invokevirtual 61, 3) := by decide +kernel
theorem dX2_number_119 : decode cX2_number 119 = .ok (.iload 4, 2) := by decide +kernel
theorem dX2_number_121 : decode cX2_number 121 = .ok (.ireturn, 1) := by decide +kernel
theorem dX3_init_0 : decode cX3_init 0 = .ok (.aload_n 0, 1) := by decide +kernel
theorem dX3_init_1 : decode cX3_init 1 = .ok (.aconst_null, 1) := by decide +kernel
theorem dX3_init_2 : decode cX3_init 2 = .ok (.aconst_null, 1) := by decide +kernel
theorem dX3_init_3 : decode cX3_init 3 = .ok (.iconst 0, 1) := by decide +kernel
theorem dX3_init_4 : decode cX3_init 4 = .ok (.iconst 0, 1) := by decide +kernel
theorem dX3_init_5 : decode cX3_init 5 = .ok (.invokespecial 1, 3) := by decide +kernel
theorem dX3_init_8 : decode cX3_init 8 = .ok (.return_, 1) := by decide +kernel
theorem dX5_isDug_0 : decode cX5_isDug 0 = .ok (.aload_n 0, 1) := by decide +kernel
theorem dX5_isDug_1 : decode cX5_isDug 1 = .ok (.getfield 17, 3) := by decide +kernel
theorem dX5_isDug_4 : decode cX5_isDug 4 = .ok (.iconst (-1), 1) := by decide +kernel
theorem dX5_isDug_5 : decode cX5_isDug 5 = .ok (.if_icmp .eq 7, 3) := by decide +kernel
theorem dX5_isDug_8 : decode cX5_isDug 8 = .ok (.iconst 1, 1) := by decide +kernel
theorem dX5_isDug_9 : decode cX5_isDug 9 = .ok (.goto 4, 3) := by decide +kernel
theorem dX5_isDug_12 : decode cX5_isDug 12 = .ok (.iconst 0, 1) := by decide +kernel
theorem dX5_isDug_13 : decode cX5_isDug 13 = .ok (.ireturn, 1) := by decide +kernel
theorem dX5_runs_0 : decode cX5_runs 0 = .ok (.iconst 0, 1) := by decide +kernel
theorem dX5_runs_1 : decode cX5_runs 1 = .ok (.istore_n 1, 1) := by decide +kernel
theorem dX5_runs_2 : decode cX5_runs 2 = .ok (.iload_n 1, 1) := by decide +kernel
theorem dX5_runs_3 : decode cX5_runs 3 = .ok (.aload_n 0, 1) := by decide +kernel
theorem dX5_runs_4 : decode cX5_runs 4 = .ok (.getfield 21, 3) := by decide +kernel
theorem dX5_runs_7 : decode cX5_runs 7 = .ok (.if_icmp .ge 21, 3) := by decide +kernel
theorem dX5_runs_10 : decode cX5_runs 10 = .ok (.aload_n 0, 1) := by decide +kernel
theorem dX5_runs_11 : decode cX5_runs 11 = .ok (.getfield 11, 3) := by decide +kernel
theorem dX5_runs_14 : decode cX5_runs 14 = .ok (.iload_n 1, 1) := by decide +kernel
theorem dX5_runs_15 : decode cX5_runs 15 = .ok (.aaload, 1) := by decide +kernel
theorem dX5_runs_16 : decode cX5_runs 16 = .ok (.getfield 24, 3) := by decide +kernel
theorem dX5_runs_19 : decode cX5_runs 19 = .ok (.ifCond .ne 9, 3) := by decide +kernel
theorem dX5_runs_22 : decode cX5_runs 22 = .ok (.iinc 1 1, 3) := by decide +kernel
theorem dX5_runs_25 : decode cX5_runs 25 = .ok (.goto (-23), 3) := by decide +kernel
theorem dX5_runs_28 : decode cX5_runs 28 = .ok (.iload_n 1, 1) := by decide +kernel
theorem dX5_runs_29 : decode cX5_runs 29 = .ok (.ireturn, 1) := by decide +kernel
theorem dX5_draw_0 : decode cX5_draw 0 = .ok (.iconst 0, 1) := by decide +kernel
theorem dX5_draw_1 : decode cX5_draw 1 = .ok (.istore_n 3, 1) := by decide +kernel
theorem dX5_draw_2 : decode cX5_draw 2 = .ok (.aload_n 0, 1) := by decide +kernel
theorem dX5_draw_3 : decode cX5_draw 3 = .ok (.invokevirtual 28, 3) := by decide +kernel
theorem dX5_draw_6 : decode cX5_draw 6 = .ok (.istore 4, 2) := by decide +kernel
theorem dX5_draw_8 : decode cX5_draw 8 = .ok (.iconst 0, 1) := by decide +kernel
theorem dX5_draw_9 : decode cX5_draw 9 = .ok (.istore 5, 2) := by decide +kernel
theorem dX5_draw_11 : decode cX5_draw 11 = .ok (.iload 5, 2) := by decide +kernel
theorem dX5_draw_13 : decode cX5_draw 13 = .ok (.iload 4, 2) := by decide +kernel
theorem dX5_draw_15 : decode cX5_draw 15 = .ok (.if_icmp .ge 28, 3) := by decide +kernel
theorem dX5_draw_18 : decode cX5_draw 18 = .ok (.iload_n 3, 1) := by decide +kernel
theorem dX5_draw_19 : decode cX5_draw 19 = .ok (.bipush 30, 2) := by decide +kernel
theorem dX5_draw_21 : decode cX5_draw 21 = .ok (.aload_n 0, 1) := by decide +kernel
theorem dX5_draw_22 : decode cX5_draw 22 = .ok (.getfield 11, 3) := by decide +kernel
theorem dX5_draw_25 : decode cX5_draw 25 = .ok (.iload 5, 2) := by decide +kernel
theorem dX5_draw_27 : decode cX5_draw 27 = .ok (.aaload, 1) := by decide +kernel
theorem dX5_draw_28 : decode cX5_draw 28 = .ok (.aload_n 1, 1) := by decide +kernel
theorem dX5_draw_29 : decode cX5_draw 29 = .ok (.invokevirtual 32, 3) := by decide +kernel
theorem dX5_draw_32 : decode cX5_draw 32 = .ok (.isub, 1) := by decide +kernel
theorem dX5_draw_33 : decode cX5_draw 33 = .ok (.invokestatic 36, 3) := by decide +kernel
theorem dX5_draw_36 : decode cX5_draw 36 = .ok (.istore_n 3, 1) := by decide +kernel
theorem dX5_draw_37 : decode cX5_draw 37 = .ok (.iinc 5 1, 3) := by decide +kernel
theorem dX5_draw_40 : decode cX5_draw 40 = .ok (.goto (-29), 3) := by decide +kernel
theorem dX5_draw_43 : decode cX5_draw 43 = .ok (.iload_n 2, 1) := by decide +kernel
theorem dX5_draw_44 : decode cX5_draw 44 = .ok (.aload_n 0, 1) := by decide +kernel
theorem dX5_draw_45 : decode cX5_draw 45 = .ok (.getfield 42, 3) := by decide +kernel
theorem dX5_draw_48 : decode cX5_draw 48 = .ok (.isub, 1) := by decide +kernel
theorem dX5_draw_49 : decode cX5_draw 49 = .ok (.istore 5, 2) := by decide +kernel
theorem dX5_draw_51 : decode cX5_draw 51 = .ok (.iload 5, 2) := by decide +kernel
theorem dX5_draw_53 : decode cX5_draw 53 = .ok (.iconst 5, 1) := by decide +kernel
theorem dX5_draw_54 : decode cX5_draw 54 = .ok (.if_icmp .ge 12, 3) := by decide +kernel
theorem dX5_draw_57 : decode cX5_draw 57 = .ok (.iload_n 3, 1) := by decide +kernel
theorem dX5_draw_58 : decode cX5_draw 58 = .ok (.iload 5, 2) := by decide +kernel
theorem dX5_draw_60 : decode cX5_draw 60 = .ok (.imul, 1) := by decide +kernel
theorem dX5_draw_61 : decode cX5_draw 61 = .ok (.iconst 5, 1) := by decide +kernel
theorem dX5_draw_62 : decode cX5_draw 62 = .ok (.idiv, 1) := by decide +kernel
theorem dX5_draw_63 : decode cX5_draw 63 = .ok (.goto 4, 3) := by decide +kernel
theorem dX5_draw_66 : decode cX5_draw 66 = .ok (.iload_n 3, 1) := by decide +kernel
theorem dX5_draw_67 : decode cX5_draw 67 = .ok (.ireturn, 1) := by decide +kernel
theorem dX5_init_0 : decode cX5_init 0 = .ok (.aload_n 0, 1) := by decide +kernel
theorem dX5_init_1 : decode cX5_init 1 = .ok (.invokespecial 3, 3) := by decide +kernel
theorem dX5_init_4 : decode cX5_init 4 = .ok (.aload_n 0, 1) := by decide +kernel
theorem dX5_init_5 : decode cX5_init 5 = .ok (.bipush 20, 2) := by decide +kernel
theorem dX5_init_7 : decode cX5_init 7 = .ok (.anewarray 9, 3) := by decide +kernel
theorem dX5_init_10 : decode cX5_init 10 = .ok (.putfield 11, 3) := by decide +kernel
theorem dX5_init_13 : decode cX5_init 13 = .ok (.aload_n 0, 1) := by decide +kernel
theorem dX5_init_14 : decode cX5_init 14 = .ok (.iconst (-1), 1) := by decide +kernel
theorem dX5_init_15 : decode cX5_init 15 = .ok (.putfield 17, 3) := by decide +kernel
theorem dX5_init_18 : decode cX5_init 18 = .ok (.return_, 1) := by decide +kernel
theorem dX6_steps_0 : decode cX6_steps 0 = .ok (.aload_n 0, 1) := by decide +kernel
theorem dX6_steps_1 : decode cX6_steps 1 = .ok (.getfield 7, 3) := by decide +kernel
theorem dX6_steps_4 : decode cX6_steps 4 = .ok (.aload_n 1, 1) := by decide +kernel
theorem dX6_steps_5 : decode cX6_steps 5 = .ok (.getfield 7, 3) := by decide +kernel
theorem dX6_steps_8 : decode cX6_steps 8 = .ok (.isub, 1) := by decide +kernel
theorem dX6_steps_9 : decode cX6_steps 9 = .ok (.invokestatic 19, 3) := by decide +kernel
theorem dX6_steps_12 : decode cX6_steps 12 = .ok (.aload_n 0, 1) := by decide +kernel
theorem dX6_steps_13 : decode cX6_steps 13 = .ok (.getfield 13, 3) := by decide +kernel
theorem dX6_steps_16 : decode cX6_steps 16 = .ok (.aload_n 1, 1) := by decide +kernel
theorem dX6_steps_17 : decode cX6_steps 17 = .ok (.getfield 13, 3) := by decide +kernel
theorem dX6_steps_20 : decode cX6_steps 20 = .ok (.isub, 1) := by decide +kernel
theorem dX6_steps_21 : decode cX6_steps 21 = .ok (.invokestatic 19, 3) := by decide +kernel
theorem dX6_steps_24 : decode cX6_steps 24 = .ok (.invokestatic 25, 3) := by decide +kernel
theorem dX6_steps_27 : decode cX6_steps 27 = .ok (.ireturn, 1) := by decide +kernel
theorem dX6_init_0 : decode cX6_init 0 = .ok (.aload_n 0, 1) := by decide +kernel
theorem dX6_init_1 : decode cX6_init 1 = .ok (.invokespecial 1, 3) := by decide +kernel
theorem dX6_init_4 : decode cX6_init 4 = .ok (.aload_n 0, 1) := by decide +kernel
theorem dX6_init_5 : decode cX6_init 5 = .ok (.iload_n 1, 1) := by decide +kernel
theorem dX6_init_6 : decode cX6_init 6 = .ok (.putfield 7, 3) := by decide +kernel
theorem dX6_init_9 : decode cX6_init 9 = .ok (.aload_n 0, 1) := by decide +kernel
theorem dX6_init_10 : decode cX6_init 10 = .ok (.iload_n 2, 1) := by decide +kernel
theorem dX6_init_11 : decode cX6_init 11 = .ok (.putfield 13, 3) := by decide +kernel
theorem dX6_init_14 : decode cX6_init 14 = .ok (.aload_n 0, 1) := by decide +kernel
theorem dX6_init_15 : decode cX6_init 15 = .ok (.iload_n 3, 1) := by decide +kernel
theorem dX6_init_16 : decode cX6_init 16 = .ok (.putfield 16, 3) := by decide +kernel
theorem dX6_init_19 : decode cX6_init 19 = .ok (.return_, 1) := by decide +kernel
theorem dX7_isLet_0 : decode cX7_isLet 0 = .ok (.aload_n 0, 1) := by decide +kernel
theorem dX7_isLet_1 : decode cX7_isLet 1 = .ok (.getfield 9, 3) := by decide +kernel
theorem dX7_isLet_4 : decode cX7_isLet 4 = .ok (.iconst (-1), 1) := by decide +kernel
theorem dX7_isLet_5 : decode cX7_isLet 5 = .ok (.if_icmp .eq 15, 3) := by decide +kernel
theorem dX7_isLet_8 : decode cX7_isLet 8 = .ok (.aload_n 0, 1) := by decide +kernel
theorem dX7_isLet_9 : decode cX7_isLet 9 = .ok (.getfield 31, 3) := by decide +kernel
theorem dX7_isLet_12 : decode cX7_isLet 12 = .ok (.iload_n 1, 1) := by decide +kernel
theorem dX7_isLet_13 : decode cX7_isLet 13 = .ok (.if_icmp .le 7, 3) := by decide +kernel
theorem dX7_isLet_16 : decode cX7_isLet 16 = .ok (.iconst 1, 1) := by decide +kernel
theorem dX7_isLet_17 : decode cX7_isLet 17 = .ok (.goto 4, 3) := by decide +kernel
theorem dX7_isLet_20 : decode cX7_isLet 20 = .ok (.iconst 0, 1) := by decide +kernel
theorem dX7_isLet_21 : decode cX7_isLet 21 = .ok (.ireturn, 1) := by decide +kernel
theorem dX7_init_0 : decode cX7_init 0 = .ok (.aload_n 0, 1) := by decide +kernel
theorem dX7_init_1 : decode cX7_init 1 = .ok (.invokespecial 3, 3) := by decide +kernel
theorem dX7_init_4 : decode cX7_init 4 = .ok (.aload_n 0, 1) := by decide +kernel
theorem dX7_init_5 : decode cX7_init 5 = .ok (.iconst (-1), 1) := by decide +kernel
theorem dX7_init_6 : decode cX7_init 6 = .ok (.putfield 9, 3) := by decide +kernel
theorem dX7_init_9 : decode cX7_init 9 = .ok (.aload_n 0, 1) := by decide +kernel
theorem dX7_init_10 : decode cX7_init 10 = .ok (.aload_n 1, 1) := by decide +kernel
theorem dX7_init_11 : decode cX7_init 11 = .ok (.putfield 15, 3) := by decide +kernel
theorem dX7_init_14 : decode cX7_init 14 = .ok (.aload_n 0, 1) := by decide +kernel
theorem dX7_init_15 : decode cX7_init 15 = .ok (.iload_n 2, 1) := by decide +kernel
theorem dX7_init_16 : decode cX7_init 16 = .ok (.putfield 19, 3) := by decide +kernel
theorem dX7_init_19 : decode cX7_init 19 = .ok (.aload_n 0, 1) := by decide +kernel
theorem dX7_init_20 : decode cX7_init 20 = .ok (.iload_n 3, 1) := by decide +kernel
theorem dX7_init_21 : decode cX7_init 21 = .ok (.putfield 22, 3) := by decide +kernel
theorem dX7_init_24 : decode cX7_init 24 = .ok (.aload_n 0, 1) := by decide +kernel
theorem dX7_init_25 : decode cX7_init 25 = .ok (.iload 4, 2) := by decide +kernel
theorem dX7_init_27 : decode cX7_init 27 = .ok (.putfield 25, 3) := by decide +kernel
theorem dX7_init_30 : decode cX7_init 30 = .ok (.aload_n 0, 1) := by decide +kernel
theorem dX7_init_31 : decode cX7_init 31 = .ok (.iload 5, 2) := by decide +kernel
theorem dX7_init_33 : decode cX7_init 33 = .ok (.putfield 28, 3) := by decide +kernel
theorem dX7_init_36 : decode cX7_init 36 = .ok (.return_, 1) := by decide +kernel
theorem dX7_be_0 : decode cX7_be 0 = .ok (.aload_n 0, 1) := by decide +kernel
theorem dX7_be_1 : decode cX7_be 1 = .ok (.iload_n 1, 1) := by decide +kernel
theorem dX7_be_2 : decode cX7_be 2 = .ok (.putfield 22, 3) := by decide +kernel
theorem dX7_be_5 : decode cX7_be 5 = .ok (.aload_n 0, 1) := by decide +kernel
theorem dX7_be_6 : decode cX7_be 6 = .ok (.iload_n 2, 1) := by decide +kernel
theorem dX7_be_7 : decode cX7_be 7 = .ok (.putfield 25, 3) := by decide +kernel
theorem dX7_be_10 : decode cX7_be 10 = .ok (.aload_n 0, 1) := by decide +kernel
theorem dX7_be_11 : decode cX7_be 11 = .ok (.iload_n 3, 1) := by decide +kernel
theorem dX7_be_12 : decode cX7_be 12 = .ok (.putfield 28, 3) := by decide +kernel
theorem dX7_be_15 : decode cX7_be 15 = .ok (.aload_n 0, 1) := by decide +kernel
theorem dX7_be_16 : decode cX7_be 16 = .ok (.iconst (-1), 1) := by decide +kernel
theorem dX7_be_17 : decode cX7_be 17 = .ok (.putfield 9, 3) := by decide +kernel
theorem dX7_be_20 : decode cX7_be 20 = .ok (.return_, 1) := by decide +kernel
theorem dX7_holder_0 : decode cX7_holder 0 = .ok (.aload_n 0, 1) := by decide +kernel
theorem dX7_holder_1 : decode cX7_holder 1 = .ok (.getfield 9, 3) := by decide +kernel
theorem dX7_holder_4 : decode cX7_holder 4 = .ok (.iconst (-1), 1) := by decide +kernel
theorem dX7_holder_5 : decode cX7_holder 5 = .ok (.if_icmp .eq 26, 3) := by decide +kernel
theorem dX7_holder_8 : decode cX7_holder 8 = .ok (.iload_n 1, 1) := by decide +kernel
theorem dX7_holder_9 : decode cX7_holder 9 = .ok (.aload_n 0, 1) := by decide +kernel
theorem dX7_holder_10 : decode cX7_holder 10 = .ok (.getfield 34, 3) := by decide +kernel
theorem dX7_holder_13 : decode cX7_holder 13 = .ok (.if_icmp .lt 18, 3) := by decide +kernel
theorem dX7_holder_16 : decode cX7_holder 16 = .ok (.iload_n 1, 1) := by decide +kernel
theorem dX7_holder_17 : decode cX7_holder 17 = .ok (.aload_n 0, 1) := by decide +kernel
theorem dX7_holder_18 : decode cX7_holder 18 = .ok (.getfield 31, 3) := by decide +kernel
theorem dX7_holder_21 : decode cX7_holder 21 = .ok (.if_icmp .ge 10, 3) := by decide +kernel
theorem dX7_holder_24 : decode cX7_holder 24 = .ok (.aload_n 0, 1) := by decide +kernel
theorem dX7_holder_25 : decode cX7_holder 25 = .ok (.getfield 9, 3) := by decide +kernel
theorem dX7_holder_28 : decode cX7_holder 28 = .ok (.goto 7, 3) := by decide +kernel
theorem dX7_holder_31 : decode cX7_holder 31 = .ok (.aload_n 0, 1) := by decide +kernel
theorem dX7_holder_32 : decode cX7_holder 32 = .ok (.getfield 28, 3) := by decide +kernel
theorem dX7_holder_35 : decode cX7_holder 35 = .ok (.ireturn, 1) := by decide +kernel
