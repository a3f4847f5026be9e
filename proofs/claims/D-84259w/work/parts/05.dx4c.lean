set_option maxRecDepth 100000
theorem dX4_heirs_446 : decode cX4_heirs 446 = .ok (.iload 13, 2) := by decide +kernel
theorem dX4_heirs_448 : decode cX4_heirs 448 = .ok (.iload 13, 2) := by decide +kernel
theorem dX4_heirs_450 : decode cX4_heirs 450 = .ok (.aload_n 0, 1) := by decide +kernel
theorem dX4_heirs_451 : decode cX4_heirs 451 = .ok (.getfield 54, 3) := by decide +kernel
theorem dX4_heirs_454 : decode cX4_heirs 454 = .ok (.iload 19, 2) := by decide +kernel
theorem dX4_heirs_456 : decode cX4_heirs 456 = .ok (.iaload, 1) := by decide +kernel
theorem dX4_heirs_457 : decode cX4_heirs 457 = .ok (.iadd, 1) := by decide +kernel
theorem dX4_heirs_458 : decode cX4_heirs 458 = .ok (.aload_n 0, 1) := by decide +kernel
theorem dX4_heirs_459 : decode cX4_heirs 459 = .ok (.getfield 48, 3) := by decide +kernel
theorem dX4_heirs_462 : decode cX4_heirs 462 = .ok (.iload 19, 2) := by decide +kernel
theorem dX4_heirs_464 : decode cX4_heirs 464 = .ok (.iaload, 1) := by decide +kernel
theorem dX4_heirs_465 : decode cX4_heirs 465 = .ok (.invokevirtual 132, 3) := by decide +kernel
theorem dX4_heirs_468 : decode cX4_heirs 468 = .ok (.iconst 0, 1) := by decide +kernel
theorem dX4_heirs_469 : decode cX4_heirs 469 = .ok (.istore 18, 2) := by decide +kernel
theorem dX4_heirs_471 : decode cX4_heirs 471 = .ok (.iload 13, 2) := by decide +kernel
theorem dX4_heirs_473 : decode cX4_heirs 473 = .ok (.aload_n 0, 1) := by decide +kernel
theorem dX4_heirs_474 : decode cX4_heirs 474 = .ok (.getfield 54, 3) := by decide +kernel
theorem dX4_heirs_477 : decode cX4_heirs 477 = .ok (.iload 19, 2) := by decide +kernel
theorem dX4_heirs_479 : decode cX4_heirs 479 = .ok (.iaload, 1) := by decide +kernel
theorem dX4_heirs_480 : decode cX4_heirs 480 = .ok (.iadd, 1) := by decide +kernel
theorem dX4_heirs_481 : decode cX4_heirs 481 = .ok (.istore 13, 2) := by decide +kernel
theorem dX4_heirs_483 : decode cX4_heirs 483 = .ok (.iinc 19 1, 3) := by decide +kernel
theorem dX4_heirs_486 : decode cX4_heirs 486 = .ok (.goto (-99), 3) := by decide +kernel
theorem dX4_heirs_489 : decode cX4_heirs 489 = .ok (.iload 17, 2) := by decide +kernel
theorem dX4_heirs_491 : decode cX4_heirs 491 = .ok (.ireturn, 1) := by decide +kernel
theorem dX4_let_0 : decode cX4_let 0 = .ok (.aload_n 0, 1) := by decide +kernel
theorem dX4_let_1 : decode cX4_let 1 = .ok (.iconst 0, 1) := by decide +kernel
theorem dX4_let_2 : decode cX4_let 2 = .ok (.putfield 88, 3) := by decide +kernel
theorem dX4_let_5 : decode cX4_let 5 = .ok (.aload_n 0, 1) := by decide +kernel
theorem dX4_let_6 : decode cX4_let 6 = .ok (.aload_n 0, 1) := by decide +kernel
theorem dX4_let_7 : decode cX4_let 7 = .ok (.iload_n 1, 1) := by decide +kernel
theorem dX4_let_8 : decode cX4_let 8 = .ok (.invokevirtual 162, 3) := by decide +kernel
theorem dX4_let_11 : decode cX4_let 11 = .ok (.iconst 1, 1) := by decide +kernel
theorem dX4_let_12 : decode cX4_let 12 = .ok (.invokevirtual 105, 3) := by decide +kernel
theorem dX4_let_15 : decode cX4_let 15 = .ok (.ifCond .ne 16, 3) := by decide +kernel
theorem dX4_let_18 : decode cX4_let 18 = .ok (.aload_n 0, 1) := by decide +kernel
theorem dX4_let_19 : decode cX4_let 19 = .ok (.aload_n 0, 1) := by decide +kernel
theorem dX4_let_20 : decode cX4_let 20 = .ok (.iload_n 1, 1) := by decide +kernel
theorem dX4_let_21 : decode cX4_let 21 = .ok (.invokevirtual 165, 3) := by decide +kernel
theorem dX4_let_24 : decode cX4_let 24 = .ok (.iconst 2, 1) := by decide +kernel
theorem dX4_let_25 : decode cX4_let 25 = .ok (.invokevirtual 105, 3) := by decide +kernel
theorem dX4_let_28 : decode cX4_let 28 = .ok (.ifCond .eq 4, 3) := by decide +kernel
theorem dX4_let_31 : decode cX4_let 31 = .ok (.return_, 1) := by decide +kernel
theorem dX4_let_32 : decode cX4_let 32 = .ok (.bipush 7, 2) := by decide +kernel
theorem dX4_let_34 : decode cX4_let 34 = .ok (.iload_n 1, 1) := by decide +kernel
theorem dX4_let_35 : decode cX4_let 35 = .ok (.imul, 1) := by decide +kernel
theorem dX4_let_36 : decode cX4_let 36 = .ok (.istore 5, 2) := by decide +kernel
theorem dX4_let_38 : decode cX4_let 38 = .ok (.aload_n 0, 1) := by decide +kernel
theorem dX4_let_39 : decode cX4_let 39 = .ok (.iload_n 2, 1) := by decide +kernel
theorem dX4_let_40 : decode cX4_let 40 = .ok (.invokestatic 168, 3) := by decide +kernel
theorem dX4_let_43 : decode cX4_let 43 = .ok (.ifCond .ne 37, 3) := by decide +kernel
theorem dX4_let_46 : decode cX4_let 46 = .ok (.iload_n 2, 1) := by decide +kernel
theorem dX4_let_47 : decode cX4_let 47 = .ok (.aload_n 0, 1) := by decide +kernel
theorem dX4_let_48 : decode cX4_let 48 = .ok (.getfield 45, 3) := by decide +kernel
theorem dX4_let_51 : decode cX4_let 51 = .ok (.iload 5, 2) := by decide +kernel
theorem dX4_let_53 : decode cX4_let 53 = .ok (.iconst 3, 1) := by decide +kernel
theorem dX4_let_54 : decode cX4_let 54 = .ok (.iadd, 1) := by decide +kernel
theorem dX4_let_55 : decode cX4_let 55 = .ok (.iaload, 1) := by decide +kernel
theorem dX4_let_56 : decode cX4_let 56 = .ok (.if_icmp .eq 24, 3) := by decide +kernel
theorem dX4_let_59 : decode cX4_let 59 = .ok (.iload_n 3, 1) := by decide +kernel
theorem dX4_let_60 : decode cX4_let 60 = .ok (.aload_n 0, 1) := by decide +kernel
theorem dX4_let_61 : decode cX4_let 61 = .ok (.getfield 159, 3) := by decide +kernel
theorem dX4_let_64 : decode cX4_let 64 = .ok (.if_icmp .lt 16, 3) := by decide +kernel
theorem dX4_let_67 : decode cX4_let 67 = .ok (.iload_n 3, 1) := by decide +kernel
theorem dX4_let_68 : decode cX4_let 68 = .ok (.iload 4, 2) := by decide +kernel
theorem dX4_let_70 : decode cX4_let 70 = .ok (.if_icmp .ge 10, 3) := by decide +kernel
theorem dX4_let_73 : decode cX4_let 73 = .ok (.iload 4, 2) := by decide +kernel
theorem dX4_let_75 : decode cX4_let 75 = .ok (.ldc 171, 2) := by decide +kernel
theorem dX4_let_77 : decode cX4_let 77 = .ok (.if_icmp .le 7, 3) := by decide +kernel
theorem dX4_let_80 : decode cX4_let 80 = .ok (.iconst 1, 1) := by decide +kernel
theorem dX4_let_81 : decode cX4_let 81 = .ok (.goto 4, 3) := by decide +kernel
theorem dX4_let_84 : decode cX4_let 84 = .ok (.iconst 0, 1) := by decide +kernel
theorem dX4_let_85 : decode cX4_let 85 = .ok (.iconst 3, 1) := by decide +kernel
theorem dX4_let_86 : decode cX4_let 86 = .ok (.invokevirtual 105, 3) := by decide +kernel
theorem dX4_let_89 : decode cX4_let 89 = .ok (.ifCond .eq 4, 3) := by decide +kernel
theorem dX4_let_92 : decode cX4_let 92 = .ok (.return_, 1) := by decide +kernel
theorem dX4_let_93 : decode cX4_let 93 = .ok (.aload_n 0, 1) := by decide +kernel
theorem dX4_let_94 : decode cX4_let 94 = .ok (.getfield 45, 3) := by decide +kernel
theorem dX4_let_97 : decode cX4_let 97 = .ok (.iload 5, 2) := by decide +kernel
theorem dX4_let_99 : decode cX4_let 99 = .ok (.iconst 4, 1) := by decide +kernel
theorem dX4_let_100 : decode cX4_let 100 = .ok (.iadd, 1) := by decide +kernel
theorem dX4_let_101 : decode cX4_let 101 = .ok (.iload_n 2, 1) := by decide +kernel
theorem dX4_let_102 : decode cX4_let 102 = .ok (.iastore, 1) := by decide +kernel
theorem dX4_let_103 : decode cX4_let 103 = .ok (.aload_n 0, 1) := by decide +kernel
theorem dX4_let_104 : decode cX4_let 104 = .ok (.getfield 45, 3) := by decide +kernel
theorem dX4_let_107 : decode cX4_let 107 = .ok (.iload 5, 2) := by decide +kernel
theorem dX4_let_109 : decode cX4_let 109 = .ok (.iconst 5, 1) := by decide +kernel
theorem dX4_let_110 : decode cX4_let 110 = .ok (.iadd, 1) := by decide +kernel
theorem dX4_let_111 : decode cX4_let 111 = .ok (.iload_n 3, 1) := by decide +kernel
theorem dX4_let_112 : decode cX4_let 112 = .ok (.iastore, 1) := by decide +kernel
theorem dX4_let_113 : decode cX4_let 113 = .ok (.aload_n 0, 1) := by decide +kernel
theorem dX4_let_114 : decode cX4_let 114 = .ok (.getfield 45, 3) := by decide +kernel
theorem dX4_let_117 : decode cX4_let 117 = .ok (.iload 5, 2) := by decide +kernel
theorem dX4_let_119 : decode cX4_let 119 = .ok (.bipush 6, 2) := by decide +kernel
theorem dX4_let_121 : decode cX4_let 121 = .ok (.iadd, 1) := by decide +kernel
theorem dX4_let_122 : decode cX4_let 122 = .ok (.iload 4, 2) := by decide +kernel
theorem dX4_let_124 : decode cX4_let 124 = .ok (.iastore, 1) := by decide +kernel
theorem dX4_let_125 : decode cX4_let 125 = .ok (.return_, 1) := by decide +kernel
theorem dX4_minutes_0 : decode cX4_minutes 0 = .ok (.aload_n 0, 1) := by decide +kernel
theorem dX4_minutes_1 : decode cX4_minutes 1 = .ok (.iconst 0, 1) := by decide +kernel
theorem dX4_minutes_2 : decode cX4_minutes 2 = .ok (.putfield 88, 3) := by decide +kernel
theorem dX4_minutes_5 : decode cX4_minutes 5 = .ok (.aload_n 0, 1) := by decide +kernel
theorem dX4_minutes_6 : decode cX4_minutes 6 = .ok (.iload_n 1, 1) := by decide +kernel
theorem dX4_minutes_7 : decode cX4_minutes 7 = .ok (.iconst 0, 1) := by decide +kernel
theorem dX4_minutes_8 : decode cX4_minutes 8 = .ok (.ldc 172, 2) := by decide +kernel
theorem dX4_minutes_10 : decode cX4_minutes 10 = .ok (.invokestatic 94, 3) := by decide +kernel
theorem dX4_minutes_13 : decode cX4_minutes 13 = .ok (.ifCond .ne 7, 3) := by decide +kernel
theorem dX4_minutes_16 : decode cX4_minutes 16 = .ok (.iconst 1, 1) := by decide +kernel
theorem dX4_minutes_17 : decode cX4_minutes 17 = .ok (.goto 4, 3) := by decide +kernel
theorem dX4_minutes_20 : decode cX4_minutes 20 = .ok (.iconst 0, 1) := by decide +kernel
theorem dX4_minutes_21 : decode cX4_minutes 21 = .ok (.iconst 1, 1) := by decide +kernel
theorem dX4_minutes_22 : decode cX4_minutes 22 = .ok (.invokevirtual 105, 3) := by decide +kernel
theorem dX4_minutes_25 : decode cX4_minutes 25 = .ok (.ifCond .eq 5, 3) := by decide +kernel
theorem dX4_minutes_28 : decode cX4_minutes 28 = .ok (.iconst 0, 1) := by decide +kernel
theorem dX4_minutes_29 : decode cX4_minutes 29 = .ok (.ireturn, 1) := by decide +kernel
theorem dX4_minutes_30 : decode cX4_minutes 30 = .ok (.aload_n 0, 1) := by decide +kernel
theorem dX4_minutes_31 : decode cX4_minutes 31 = .ok (.dup, 1) := by decide +kernel
theorem dX4_minutes_32 : decode cX4_minutes 32 = .ok (.getfield 159, 3) := by decide +kernel
theorem dX4_minutes_35 : decode cX4_minutes 35 = .ok (.iload_n 1, 1) := by decide +kernel
theorem dX4_minutes_36 : decode cX4_minutes 36 = .ok (.iadd, 1) := by decide +kernel
theorem dX4_minutes_37 : decode cX4_minutes 37 = .ok (.putfield 159, 3) := by decide +kernel
theorem dX4_minutes_40 : decode cX4_minutes 40 = .ok (.aload_n 0, 1) := by decide +kernel
theorem dX4_minutes_41 : decode cX4_minutes 41 = .ok (.getfield 159, 3) := by decide +kernel
theorem dX4_minutes_44 : decode cX4_minutes 44 = .ok (.ireturn, 1) := by decide +kernel
theorem dX4_holder_0 : decode cX4_holder 0 = .ok (.aload_n 0, 1) := by decide +kernel
theorem dX4_holder_1 : decode cX4_holder 1 = .ok (.iconst 0, 1) := by decide +kernel
theorem dX4_holder_2 : decode cX4_holder 2 = .ok (.putfield 88, 3) := by decide +kernel
theorem dX4_holder_5 : decode cX4_holder 5 = .ok (.aload_n 0, 1) := by decide +kernel
theorem dX4_holder_6 : decode cX4_holder 6 = .ok (.aload_n 0, 1) := by decide +kernel
theorem dX4_holder_7 : decode cX4_holder 7 = .ok (.iload_n 1, 1) := by decide +kernel
theorem dX4_holder_8 : decode cX4_holder 8 = .ok (.invokevirtual 98, 3) := by decide +kernel
theorem dX4_holder_11 : decode cX4_holder 11 = .ok (.iconst 1, 1) := by decide +kernel
theorem dX4_holder_12 : decode cX4_holder 12 = .ok (.invokevirtual 105, 3) := by decide +kernel
theorem dX4_holder_15 : decode cX4_holder 15 = .ok (.ifCond .ne 20, 3) := by decide +kernel
theorem dX4_holder_18 : decode cX4_holder 18 = .ok (.aload_n 0, 1) := by decide +kernel
theorem dX4_holder_19 : decode cX4_holder 19 = .ok (.iload_n 2, 1) := by decide +kernel
theorem dX4_holder_20 : decode cX4_holder 20 = .ok (.ifCond .ge 7, 3) := by decide +kernel
theorem dX4_holder_23 : decode cX4_holder 23 = .ok (.iconst 1, 1) := by decide +kernel
theorem dX4_holder_24 : decode cX4_holder 24 = .ok (.goto 4, 3) := by decide +kernel
theorem dX4_holder_27 : decode cX4_holder 27 = .ok (.iconst 0, 1) := by decide +kernel
theorem dX4_holder_28 : decode cX4_holder 28 = .ok (.iconst 2, 1) := by decide +kernel
theorem dX4_holder_29 : decode cX4_holder 29 = .ok (.invokevirtual 105, 3) := by decide +kernel
theorem dX4_holder_32 : decode cX4_holder 32 = .ok (.ifCond .eq 5, 3) := by decide +kernel
theorem dX4_holder_35 : decode cX4_holder 35 = .ok (.iconst 0, 1) := by decide +kernel
theorem dX4_holder_36 : decode cX4_holder 36 = .ok (.ireturn, 1) := by decide +kernel
theorem dX4_holder_37 : decode cX4_holder 37 = .ok (.aload_n 0, 1) := by decide +kernel
theorem dX4_holder_38 : decode cX4_holder 38 = .ok (.getfield 20, 3) := by decide +kernel
theorem dX4_holder_41 : decode cX4_holder 41 = .ok (.iload_n 1, 1) := by decide +kernel
theorem dX4_holder_42 : decode cX4_holder 42 = .ok (.baload, 1) := by decide +kernel
theorem dX4_holder_43 : decode cX4_holder 43 = .ok (.ifCond .ne 5, 3) := by decide +kernel
theorem dX4_holder_46 : decode cX4_holder 46 = .ok (.iconst (-1), 1) := by decide +kernel
theorem dX4_holder_47 : decode cX4_holder 47 = .ok (.ireturn, 1) := by decide +kernel
theorem dX4_holder_48 : decode cX4_holder 48 = .ok (.iload_n 2, 1) := by decide +kernel
theorem dX4_holder_49 : decode cX4_holder 49 = .ok (.aload_n 0, 1) := by decide +kernel
theorem dX4_holder_50 : decode cX4_holder 50 = .ok (.getfield 30, 3) := by decide +kernel
theorem dX4_holder_53 : decode cX4_holder 53 = .ok (.iload_n 1, 1) := by decide +kernel
theorem dX4_holder_54 : decode cX4_holder 54 = .ok (.iaload, 1) := by decide +kernel
theorem dX4_holder_55 : decode cX4_holder 55 = .ok (.irem, 1) := by decide +kernel
theorem dX4_holder_56 : decode cX4_holder 56 = .ok (.istore_n 3, 1) := by decide +kernel
theorem dX4_holder_57 : decode cX4_holder 57 = .ok (.iconst 0, 1) := by decide +kernel
theorem dX4_holder_58 : decode cX4_holder 58 = .ok (.istore 4, 2) := by decide +kernel
theorem dX4_holder_60 : decode cX4_holder 60 = .ok (.iload 4, 2) := by decide +kernel
theorem dX4_holder_62 : decode cX4_holder 62 = .ok (.aload_n 0, 1) := by decide +kernel
theorem dX4_holder_63 : decode cX4_holder 63 = .ok (.getfield 102, 3) := by decide +kernel
theorem dX4_holder_66 : decode cX4_holder 66 = .ok (.if_icmp .ge 105, 3) := by decide +kernel
theorem dX4_holder_69 : decode cX4_holder 69 = .ok (.bipush 7, 2) := by decide +kernel
theorem dX4_holder_71 : decode cX4_holder 71 = .ok (.iload 4, 2) := by decide +kernel
theorem dX4_holder_73 : decode cX4_holder 73 = .ok (.imul, 1) := by decide +kernel
theorem dX4_holder_74 : decode cX4_holder 74 = .ok (.istore 5, 2) := by decide +kernel
theorem dX4_holder_76 : decode cX4_holder 76 = .ok (.aload_n 0, 1) := by decide +kernel
theorem dX4_holder_77 : decode cX4_holder 77 = .ok (.getfield 45, 3) := by decide +kernel
theorem dX4_holder_80 : decode cX4_holder 80 = .ok (.iload 5, 2) := by decide +kernel
theorem dX4_holder_82 : decode cX4_holder 82 = .ok (.iaload, 1) := by decide +kernel
theorem dX4_holder_83 : decode cX4_holder 83 = .ok (.iload_n 1, 1) := by decide +kernel
theorem dX4_holder_84 : decode cX4_holder 84 = .ok (.if_icmp .ne 81, 3) := by decide +kernel
theorem dX4_holder_87 : decode cX4_holder 87 = .ok (.iload_n 3, 1) := by decide +kernel
theorem dX4_holder_88 : decode cX4_holder 88 = .ok (.aload_n 0, 1) := by decide +kernel
theorem dX4_holder_89 : decode cX4_holder 89 = .ok (.getfield 45, 3) := by decide +kernel
theorem dX4_holder_92 : decode cX4_holder 92 = .ok (.iload 5, 2) := by decide +kernel
theorem dX4_holder_94 : decode cX4_holder 94 = .ok (.iconst 1, 1) := by decide +kernel
theorem dX4_holder_95 : decode cX4_holder 95 = .ok (.iadd, 1) := by decide +kernel
theorem dX4_holder_96 : decode cX4_holder 96 = .ok (.iaload, 1) := by decide +kernel
theorem dX4_holder_97 : decode cX4_holder 97 = .ok (.if_icmp .lt 68, 3) := by decide +kernel
theorem dX4_holder_100 : decode cX4_holder 100 = .ok (.iload_n 3, 1) := by decide +kernel
theorem dX4_holder_101 : decode cX4_holder 101 = .ok (.aload_n 0, 1) := by decide +kernel
theorem dX4_holder_102 : decode cX4_holder 102 = .ok (.getfield 45, 3) := by decide +kernel
theorem dX4_holder_105 : decode cX4_holder 105 = .ok (.iload 5, 2) := by decide +kernel
theorem dX4_holder_107 : decode cX4_holder 107 = .ok (.iconst 2, 1) := by decide +kernel
theorem dX4_holder_108 : decode cX4_holder 108 = .ok (.iadd, 1) := by decide +kernel
theorem dX4_holder_109 : decode cX4_holder 109 = .ok (.iaload, 1) := by decide +kernel
theorem dX4_holder_110 : decode cX4_holder 110 = .ok (.if_icmp .lt 6, 3) := by decide +kernel
theorem dX4_holder_113 : decode cX4_holder 113 = .ok (.goto 52, 3) := by decide +kernel
theorem dX4_holder_116 : decode cX4_holder 116 = .ok (.iload_n 2, 1) := by decide +kernel
theorem dX4_holder_117 : decode cX4_holder 117 = .ok (.aload_n 0, 1) := by decide +kernel
theorem dX4_holder_118 : decode cX4_holder 118 = .ok (.getfield 45, 3) := by decide +kernel
theorem dX4_holder_121 : decode cX4_holder 121 = .ok (.iload 5, 2) := by decide +kernel
theorem dX4_holder_123 : decode cX4_holder 123 = .ok (.iconst 5, 1) := by decide +kernel
theorem dX4_holder_124 : decode cX4_holder 124 = .ok (.iadd, 1) := by decide +kernel
theorem dX4_holder_125 : decode cX4_holder 125 = .ok (.iaload, 1) := by decide +kernel
theorem dX4_holder_126 : decode cX4_holder 126 = .ok (.if_icmp .lt 29, 3) := by decide +kernel
theorem dX4_holder_129 : decode cX4_holder 129 = .ok (.iload_n 2, 1) := by decide +kernel
theorem dX4_holder_130 : decode cX4_holder 130 = .ok (.aload_n 0, 1) := by decide +kernel
theorem dX4_holder_131 : decode cX4_holder 131 = .ok (.getfield 45, 3) := by decide +kernel
theorem dX4_holder_134 : decode cX4_holder 134 = .ok (.iload 5, 2) := by decide +kernel
theorem dX4_holder_136 : decode cX4_holder 136 = .ok (.bipush 6, 2) := by decide +kernel
theorem dX4_holder_138 : decode cX4_holder 138 = .ok (.iadd, 1) := by decide +kernel
theorem dX4_holder_139 : decode cX4_holder 139 = .ok (.iaload, 1) := by decide +kernel
theorem dX4_holder_140 : decode cX4_holder 140 = .ok (.if_icmp .ge 15, 3) := by decide +kernel
theorem dX4_holder_143 : decode cX4_holder 143 = .ok (.aload_n 0, 1) := by decide +kernel
theorem dX4_holder_144 : decode cX4_holder 144 = .ok (.getfield 45, 3) := by decide +kernel
theorem dX4_holder_147 : decode cX4_holder 147 = .ok (.iload 5, 2) := by decide +kernel
theorem dX4_holder_149 : decode cX4_holder 149 = .ok (.iconst 4, 1) := by decide +kernel
theorem dX4_holder_150 : decode cX4_holder 150 = .ok (.iadd, 1) := by decide +kernel
theorem dX4_holder_151 : decode cX4_holder 151 = .ok (.iaload, 1) := by decide +kernel
theorem dX4_holder_152 : decode cX4_holder 152 = .ok (.goto 12, 3) := by decide +kernel
theorem dX4_holder_155 : decode cX4_holder 155 = .ok (.aload_n 0, 1) := by decide +kernel
theorem dX4_holder_156 : decode cX4_holder 156 = .ok (.getfield 45, 3) := by decide +kernel
theorem dX4_holder_159 : decode cX4_holder 159 = .ok (.iload 5, 2) := by decide +kernel
theorem dX4_holder_161 : decode cX4_holder 161 = .ok (.iconst 3, 1) := by decide +kernel
theorem dX4_holder_162 : decode cX4_holder 162 = .ok (.iadd, 1) := by decide +kernel
theorem dX4_holder_163 : decode cX4_holder 163 = .ok (.iaload, 1) := by decide +kernel
theorem dX4_holder_164 : decode cX4_holder 164 = .ok (.ireturn, 1) := by decide +kernel
theorem dX4_holder_165 : decode cX4_holder 165 = .ok (.iinc 4 1, 3) := by decide +kernel
theorem dX4_holder_168 : decode cX4_holder 168 = .ok (.goto (-108), 3) := by decide +kernel
theorem dX4_holder_171 : decode cX4_holder 171 = .ok (.iconst (-1), 1) := by decide +kernel
theorem dX4_holder_172 : decode cX4_holder 172 = .ok (.ireturn, 1) := by decide +kernel
theorem dX4_share_0 : decode cX4_share 0 = .ok (.aload_n 0, 1) := by decide +kernel
theorem dX4_share_1 : decode cX4_share 1 = .ok (.iconst 0, 1) := by decide +kernel
theorem dX4_share_2 : decode cX4_share 2 = .ok (.putfield 88, 3) := by decide +kernel
theorem dX4_share_5 : decode cX4_share 5 = .ok (.aload_n 0, 1) := by decide +kernel
theorem dX4_share_6 : decode cX4_share 6 = .ok (.aload_n 0, 1) := by decide +kernel
theorem dX4_share_7 : decode cX4_share 7 = .ok (.iload_n 1, 1) := by decide +kernel
theorem dX4_share_8 : decode cX4_share 8 = .ok (.invokevirtual 162, 3) := by decide +kernel
theorem dX4_share_11 : decode cX4_share 11 = .ok (.iconst 1, 1) := by decide +kernel
theorem dX4_share_12 : decode cX4_share 12 = .ok (.invokevirtual 105, 3) := by decide +kernel
theorem dX4_share_15 : decode cX4_share 15 = .ok (.ifCond .eq 5, 3) := by decide +kernel
theorem dX4_share_18 : decode cX4_share 18 = .ok (.iconst 0, 1) := by decide +kernel
theorem dX4_share_19 : decode cX4_share 19 = .ok (.ireturn, 1) := by decide +kernel
theorem dX4_share_20 : decode cX4_share 20 = .ok (.iload_n 2, 1) := by decide +kernel
theorem dX4_share_21 : decode cX4_share 21 = .ok (.tableswitch 61 0 4 #[35, 35, 35, 35, 47], 35) := by decide +kernel
theorem dX4_share_56 : decode cX4_share 56 = .ok (.aload_n 0, 1) := by decide +kernel
theorem dX4_share_57 : decode cX4_share 57 = .ok (.getfield 45, 3) := by decide +kernel
theorem dX4_share_60 : decode cX4_share 60 = .ok (.bipush 7, 2) := by decide +kernel
theorem dX4_share_62 : decode cX4_share 62 = .ok (.iload_n 1, 1) := by decide +kernel
theorem dX4_share_63 : decode cX4_share 63 = .ok (.imul, 1) := by decide +kernel
theorem dX4_share_64 : decode cX4_share 64 = .ok (.iload_n 2, 1) := by decide +kernel
theorem dX4_share_65 : decode cX4_share 65 = .ok (.iadd, 1) := by decide +kernel
theorem dX4_share_66 : decode cX4_share 66 = .ok (.iaload, 1) := by decide +kernel
theorem dX4_share_67 : decode cX4_share 67 = .ok (.ireturn, 1) := by decide +kernel
theorem dX4_share_68 : decode cX4_share 68 = .ok (.aload_n 0, 1) := by decide +kernel
theorem dX4_share_69 : decode cX4_share 69 = .ok (.iload_n 1, 1) := by decide +kernel
theorem dX4_share_70 : decode cX4_share 70 = .ok (.invokevirtual 165, 3) := by decide +kernel
theorem dX4_share_73 : decode cX4_share 73 = .ok (.ifCond .eq 7, 3) := by decide +kernel
theorem dX4_share_76 : decode cX4_share 76 = .ok (.iconst 1, 1) := by decide +kernel
theorem dX4_share_77 : decode cX4_share 77 = .ok (.goto 4, 3) := by decide +kernel
theorem dX4_share_80 : decode cX4_share 80 = .ok (.iconst 0, 1) := by decide +kernel
theorem dX4_share_81 : decode cX4_share 81 = .ok (.ireturn, 1) := by decide +kernel
theorem dX4_share_82 : decode cX4_share 82 = .ok (.aload_n 0, 1) := by decide +kernel
theorem dX4_share_83 : decode cX4_share 83 = .ok (.iconst 2, 1) := by decide +kernel
theorem dX4_share_84 : decode cX4_share 84 = .ok (.putfield 88, 3) := by decide +kernel
theorem dX4_share_87 : decode cX4_share 87 = .ok (.iconst 0, 1) := by decide +kernel
theorem dX4_share_88 : decode cX4_share 88 = .ok (.ireturn, 1) := by decide +kernel
theorem dX4_feed_0 : decode cX4_feed 0 = .ok (.aload_n 0, 1) := by decide +kernel
theorem dX4_feed_1 : decode cX4_feed 1 = .ok (.iconst 0, 1) := by decide +kernel
theorem dX4_feed_2 : decode cX4_feed 2 = .ok (.putfield 88, 3) := by decide +kernel
theorem dX4_feed_5 : decode cX4_feed 5 = .ok (.aload_n 0, 1) := by decide +kernel
theorem dX4_feed_6 : decode cX4_feed 6 = .ok (.getfield 173, 3) := by decide +kernel
theorem dX4_feed_9 : decode cX4_feed 9 = .ok (.bipush 20, 2) := by decide +kernel
theorem dX4_feed_11 : decode cX4_feed 11 = .ok (.iadd, 1) := by decide +kernel
theorem dX4_feed_12 : decode cX4_feed 12 = .ok (.sipush 400, 3) := by decide +kernel
theorem dX4_feed_15 : decode cX4_feed 15 = .ok (.if_icmp .le 5, 3) := by decide +kernel
theorem dX4_feed_18 : decode cX4_feed 18 = .ok (.iconst (-1), 1) := by decide +kernel
theorem dX4_feed_19 : decode cX4_feed 19 = .ok (.ireturn, 1) := by decide +kernel
theorem dX4_feed_20 : decode cX4_feed 20 = .ok (.aload_n 0, 1) := by decide +kernel
theorem dX4_feed_21 : decode cX4_feed 21 = .ok (.getfield 70, 3) := by decide +kernel
theorem dX4_feed_24 : decode cX4_feed 24 = .ok (.iconst 0, 1) := by decide +kernel
theorem dX4_feed_25 : decode cX4_feed 25 = .ok (.iload_n 1, 1) := by decide +kernel
theorem dX4_feed_26 : decode cX4_feed 26 = .ok (.iastore, 1) := by decide +kernel
theorem dX4_feed_27 : decode cX4_feed 27 = .ok (.aload_n 0, 1) := by decide +kernel
theorem dX4_feed_28 : decode cX4_feed 28 = .ok (.getfield 70, 3) := by decide +kernel
theorem dX4_feed_31 : decode cX4_feed 31 = .ok (.iconst 1, 1) := by decide +kernel
theorem dX4_feed_32 : decode cX4_feed 32 = .ok (.iload_n 2, 1) := by decide +kernel
theorem dX4_feed_33 : decode cX4_feed 33 = .ok (.iastore, 1) := by decide +kernel
theorem dX4_feed_34 : decode cX4_feed 34 = .ok (.aload_n 0, 1) := by decide +kernel
theorem dX4_feed_35 : decode cX4_feed 35 = .ok (.getfield 70, 3) := by decide +kernel
theorem dX4_feed_38 : decode cX4_feed 38 = .ok (.iconst 2, 1) := by decide +kernel
theorem dX4_feed_39 : decode cX4_feed 39 = .ok (.iload_n 3, 1) := by decide +kernel
theorem dX4_feed_40 : decode cX4_feed 40 = .ok (.iastore, 1) := by decide +kernel
theorem dX4_feed_41 : decode cX4_feed 41 = .ok (.aload_n 0, 1) := by decide +kernel
theorem dX4_feed_42 : decode cX4_feed 42 = .ok (.getfield 70, 3) := by decide +kernel
theorem dX4_feed_45 : decode cX4_feed 45 = .ok (.iconst 3, 1) := by decide +kernel
theorem dX4_feed_46 : decode cX4_feed 46 = .ok (.iload 4, 2) := by decide +kernel
theorem dX4_feed_48 : decode cX4_feed 48 = .ok (.iastore, 1) := by decide +kernel
theorem dX4_feed_49 : decode cX4_feed 49 = .ok (.aload_n 0, 1) := by decide +kernel
theorem dX4_feed_50 : decode cX4_feed 50 = .ok (.getfield 70, 3) := by decide +kernel
theorem dX4_feed_53 : decode cX4_feed 53 = .ok (.iconst 4, 1) := by decide +kernel
theorem dX4_feed_54 : decode cX4_feed 54 = .ok (.iload 5, 2) := by decide +kernel
theorem dX4_feed_56 : decode cX4_feed 56 = .ok (.iastore, 1) := by decide +kernel
theorem dX4_feed_57 : decode cX4_feed 57 = .ok (.iconst 0, 1) := by decide +kernel
theorem dX4_feed_58 : decode cX4_feed 58 = .ok (.istore 6, 2) := by decide +kernel
theorem dX4_feed_60 : decode cX4_feed 60 = .ok (.iload 6, 2) := by decide +kernel
theorem dX4_feed_62 : decode cX4_feed 62 = .ok (.bipush 20, 2) := by decide +kernel
theorem dX4_feed_64 : decode cX4_feed 64 = .ok (.if_icmp .ge 42, 3) := by decide +kernel
theorem dX4_feed_67 : decode cX4_feed 67 = .ok (.aload_n 0, 1) := by decide +kernel
theorem dX4_feed_68 : decode cX4_feed 68 = .ok (.getfield 63, 3) := by decide +kernel
theorem dX4_feed_71 : decode cX4_feed 71 = .ok (.aload_n 0, 1) := by decide +kernel
theorem dX4_feed_72 : decode cX4_feed 72 = .ok (.getfield 173, 3) := by decide +kernel
theorem dX4_feed_75 : decode cX4_feed 75 = .ok (.iload 6, 2) := by decide +kernel
theorem dX4_feed_77 : decode cX4_feed 77 = .ok (.iadd, 1) := by decide +kernel
theorem dX4_feed_78 : decode cX4_feed 78 = .ok (.aload_n 0, 1) := by decide +kernel
theorem dX4_feed_79 : decode cX4_feed 79 = .ok (.getfield 70, 3) := by decide +kernel
theorem dX4_feed_82 : decode cX4_feed 82 = .ok (.iload 6, 2) := by decide +kernel
theorem dX4_feed_84 : decode cX4_feed 84 = .ok (.iconst 4, 1) := by decide +kernel
theorem dX4_feed_85 : decode cX4_feed 85 = .ok (.idiv, 1) := by decide +kernel
theorem dX4_feed_86 : decode cX4_feed 86 = .ok (.iaload, 1) := by decide +kernel
theorem dX4_feed_87 : decode cX4_feed 87 = .ok (.bipush 24, 2) := by decide +kernel
theorem dX4_feed_89 : decode cX4_feed 89 = .ok (.bipush 8, 2) := by decide +kernel
theorem dX4_feed_91 : decode cX4_feed 91 = .ok (.iload 6, 2) := by decide +kernel
theorem dX4_feed_93 : decode cX4_feed 93 = .ok (.iconst 4, 1) := by decide +kernel
theorem dX4_feed_94 : decode cX4_feed 94 = .ok (.irem, 1) := by decide +kernel
theorem dX4_feed_95 : decode cX4_feed 95 = .ok (.imul, 1) := by decide +kernel
theorem dX4_feed_96 : decode cX4_feed 96 = .ok (.isub, 1) := by decide +kernel
theorem dX4_feed_97 : decode cX4_feed 97 = .ok (.ishr, 1) := by decide +kernel
theorem dX4_feed_98 : decode cX4_feed 98 = .ok (.i2b, 1) := by decide +kernel
theorem dX4_feed_99 : decode cX4_feed 99 = .ok (.bastore, 1) := by decide +kernel
theorem dX4_feed_100 : decode cX4_feed 100 = .ok (.iinc 6 1, 3) := by decide +kernel
theorem dX4_feed_103 : decode cX4_feed 103 = .ok (.goto (-43), 3) := by decide +kernel
theorem dX4_feed_106 : decode cX4_feed 106 = .ok (.aload_n 0, 1) := by decide +kernel
theorem dX4_feed_107 : decode cX4_feed 107 = .ok (.dup, 1) := by decide +kernel
theorem dX4_feed_108 : decode cX4_feed 108 = .ok (.getfield 173, 3) := by decide +kernel
theorem dX4_feed_111 : decode cX4_feed 111 = .ok (.bipush 20, 2) := by decide +kernel
theorem dX4_feed_113 : decode cX4_feed 113 = .ok (.iadd, 1) := by decide +kernel
theorem dX4_feed_114 : decode cX4_feed 114 = .ok (.putfield 173, 3) := by decide +kernel
theorem dX4_feed_117 : decode cX4_feed 117 = .ok (.aload_n 0, 1) := by decide +kernel
theorem dX4_feed_118 : decode cX4_feed 118 = .ok (.getfield 173, 3) := by decide +kernel
theorem dX4_feed_121 : decode cX4_feed 121 = .ok (.ireturn, 1) := by decide +kernel
theorem dX4_end_0 : decode cX4_end 0 = .ok (.aload_n 0, 1) := by decide +kernel
theorem dX4_end_1 : decode cX4_end 1 = .ok (.iconst 0, 1) := by decide +kernel
theorem dX4_end_2 : decode cX4_end 2 = .ok (.putfield 88, 3) := by decide +kernel
theorem dX4_end_5 : decode cX4_end 5 = .ok (.iload_n 1, 1) := by decide +kernel
theorem dX4_end_6 : decode cX4_end 6 = .ok (.ifCond .lt 11, 3) := by decide +kernel
theorem dX4_end_9 : decode cX4_end 9 = .ok (.iload_n 1, 1) := by decide +kernel
theorem dX4_end_10 : decode cX4_end 10 = .ok (.aload_n 0, 1) := by decide +kernel
theorem dX4_end_11 : decode cX4_end 11 = .ok (.getfield 173, 3) := by decide +kernel
theorem dX4_end_14 : decode cX4_end 14 = .ok (.if_icmp .le 5, 3) := by decide +kernel
theorem dX4_end_17 : decode cX4_end 17 = .ok (.iconst 0, 1) := by decide +kernel
theorem dX4_end_18 : decode cX4_end 18 = .ok (.ireturn, 1) := by decide +kernel
theorem dX4_end_19 : decode cX4_end 19 = .ok (.aload_n 0, 1) := by decide +kernel
theorem dX4_end_20 : decode cX4_end 20 = .ok (.iload_n 1, 1) := by decide +kernel
theorem dX4_end_21 : decode cX4_end 21 = .ok (.putfield 173, 3) := by decide +kernel
theorem dX4_end_24 : decode cX4_end 24 = .ok (.iconst 1, 1) := by decide +kernel
theorem dX4_end_25 : decode cX4_end 25 = .ok (.ireturn, 1) := by decide +kernel
theorem dX4_law_0 : decode cX4_law 0 = .ok (.aload_n 0, 1) := by decide +kernel
theorem dX4_law_1 : decode cX4_law 1 = .ok (.iconst 0, 1) := by decide +kernel
theorem dX4_law_2 : decode cX4_law 2 = .ok (.putfield 88, 3) := by decide +kernel
theorem dX4_law_5 : decode cX4_law 5 = .ok (.aload_n 0, 1) := by decide +kernel
theorem dX4_law_6 : decode cX4_law 6 = .ok (.aload_n 0, 1) := by decide +kernel
theorem dX4_law_7 : decode cX4_law 7 = .ok (.getfield 173, 3) := by decide +kernel
theorem dX4_law_10 : decode cX4_law 10 = .ok (.putfield 179, 3) := by decide +kernel
theorem dX4_law_13 : decode cX4_law 13 = .ok (.aload_n 0, 1) := by decide +kernel
theorem dX4_law_14 : decode cX4_law 14 = .ok (.iconst 0, 1) := by decide +kernel
theorem dX4_law_15 : decode cX4_law 15 = .ok (.putfield 173, 3) := by decide +kernel
theorem dX4_law_18 : decode cX4_law 18 = .ok (.aload_n 0, 1) := by decide +kernel
theorem dX4_law_19 : decode cX4_law 19 = .ok (.iconst 0, 1) := by decide +kernel
theorem dX4_law_20 : decode cX4_law 20 = .ok (.putfield 176, 3) := by decide +kernel
theorem dX4_law_23 : decode cX4_law 23 = .ok (.iconst 0, 1) := by decide +kernel
theorem dX4_law_24 : decode cX4_law 24 = .ok (.istore_n 1, 1) := by decide +kernel
theorem dX4_law_25 : decode cX4_law 25 = .ok (.iload_n 1, 1) := by decide +kernel
theorem dX4_law_26 : decode cX4_law 26 = .ok (.iconst 4, 1) := by decide +kernel
theorem dX4_law_27 : decode cX4_law 27 = .ok (.if_icmp .ge 21, 3) := by decide +kernel
theorem dX4_law_30 : decode cX4_law 30 = .ok (.aload_n 0, 1) := by decide +kernel
theorem dX4_law_31 : decode cX4_law 31 = .ok (.getfield 60, 3) := by decide +kernel
theorem dX4_law_34 : decode cX4_law 34 = .ok (.iload_n 1, 1) := by decide +kernel
theorem dX4_law_35 : decode cX4_law 35 = .ok (.aload_n 0, 1) := by decide +kernel
theorem dX4_law_36 : decode cX4_law 36 = .ok (.getfield 57, 3) := by decide +kernel
theorem dX4_law_39 : decode cX4_law 39 = .ok (.iload_n 1, 1) := by decide +kernel
theorem dX4_law_40 : decode cX4_law 40 = .ok (.iaload, 1) := by decide +kernel
theorem dX4_law_41 : decode cX4_law 41 = .ok (.iastore, 1) := by decide +kernel
theorem dX4_law_42 : decode cX4_law 42 = .ok (.iinc 1 1, 3) := by decide +kernel
theorem dX4_law_45 : decode cX4_law 45 = .ok (.goto (-20), 3) := by decide +kernel
theorem dX4_law_48 : decode cX4_law 48 = .ok (.iconst 0, 1) := by decide +kernel
theorem dX4_law_49 : decode cX4_law 49 = .ok (.istore_n 1, 1) := by decide +kernel
theorem dX4_law_50 : decode cX4_law 50 = .ok (.aload_n 0, 1) := by decide +kernel
theorem dX4_law_51 : decode cX4_law 51 = .ok (.invokevirtual 222, 3) := by decide +kernel
theorem dX4_law_54 : decode cX4_law 54 = .ok (.istore_n 2, 1) := by decide +kernel
theorem dX4_law_55 : decode cX4_law 55 = .ok (.iload_n 2, 1) := by decide +kernel
theorem dX4_law_56 : decode cX4_law 56 = .ok (.ifCond .eq 58, 3) := by decide +kernel
theorem dX4_law_59 : decode cX4_law 59 = .ok (.iinc 1 1, 3) := by decide +kernel
theorem dX4_law_62 : decode cX4_law 62 = .ok (.aload_n 0, 1) := by decide +kernel
theorem dX4_law_63 : decode cX4_law 63 = .ok (.invokevirtual 197, 3) := by decide +kernel
theorem dX4_law_66 : decode cX4_law 66 = .ok (.aload_n 0, 1) := by decide +kernel
theorem dX4_law_67 : decode cX4_law 67 = .ok (.getfield 176, 3) := by decide +kernel
theorem dX4_law_70 : decode cX4_law 70 = .ok (.aload_n 0, 1) := by decide +kernel
theorem dX4_law_71 : decode cX4_law 71 = .ok (.getfield 179, 3) := by decide +kernel
theorem dX4_law_74 : decode cX4_law 74 = .ok (.if_icmp .ne 6, 3) := by decide +kernel
theorem dX4_law_77 : decode cX4_law 77 = .ok (.goto 37, 3) := by decide +kernel
theorem dX4_law_80 : decode cX4_law 80 = .ok (.aload_n 0, 1) := by decide +kernel
theorem dX4_law_81 : decode cX4_law 81 = .ok (.bipush 59, 2) := by decide +kernel
theorem dX4_law_83 : decode cX4_law 83 = .ok (.bipush 59, 2) := by decide +kernel
theorem dX4_law_85 : decode cX4_law 85 = .ok (.invokevirtual 182, 3) := by decide +kernel
theorem dX4_law_88 : decode cX4_law 88 = .ok (.istore_n 2, 1) := by decide +kernel
theorem dX4_law_89 : decode cX4_law 89 = .ok (.iload_n 2, 1) := by decide +kernel
theorem dX4_law_90 : decode cX4_law 90 = .ok (.ifCond .ne 6, 3) := by decide +kernel
theorem dX4_law_93 : decode cX4_law 93 = .ok (.goto 21, 3) := by decide +kernel
theorem dX4_law_96 : decode cX4_law 96 = .ok (.aload_n 0, 1) := by decide +kernel
theorem dX4_law_97 : decode cX4_law 97 = .ok (.dup, 1) := by decide +kernel
theorem dX4_law_98 : decode cX4_law 98 = .ok (.getfield 176, 3) := by decide +kernel
theorem dX4_law_101 : decode cX4_law 101 = .ok (.iconst 1, 1) := by decide +kernel
theorem dX4_law_102 : decode cX4_law 102 = .ok (.iadd, 1) := by decide +kernel
theorem dX4_law_103 : decode cX4_law 103 = .ok (.putfield 176, 3) := by decide +kernel
theorem dX4_law_106 : decode cX4_law 106 = .ok (.aload_n 0, 1) := by decide +kernel
theorem dX4_law_107 : decode cX4_law 107 = .ok (.invokevirtual 222, 3) := by decide +kernel
theorem dX4_law_110 : decode cX4_law 110 = .ok (.istore_n 2, 1) := by decide +kernel
theorem dX4_law_111 : decode cX4_law 111 = .ok (.goto (-56), 3) := by decide +kernel
theorem dX4_law_114 : decode cX4_law 114 = .ok (.aload_n 0, 1) := by decide +kernel
theorem dX4_law_115 : decode cX4_law 115 = .ok (.iload_n 2, 1) := by decide +kernel
theorem dX4_law_116 : decode cX4_law 116 = .ok (.ifCond .eq 7, 3) := by decide +kernel
theorem dX4_law_119 : decode cX4_law 119 = .ok (.iconst (-1), 1) := by decide +kernel
theorem dX4_law_120 : decode cX4_law 120 = .ok (.goto 7, 3) := by decide +kernel
theorem dX4_law_123 : decode cX4_law 123 = .ok (.aload_n 0, 1) := by decide +kernel
theorem dX4_law_124 : decode cX4_law 124 = .ok (.getfield 185, 3) := by decide +kernel
theorem dX4_law_127 : decode cX4_law 127 = .ok (.putfield 67, 3) := by decide +kernel
theorem dX4_law_130 : decode cX4_law 130 = .ok (.aload_n 0, 1) := by decide +kernel
theorem dX4_law_131 : decode cX4_law 131 = .ok (.iload_n 2, 1) := by decide +kernel
theorem dX4_law_132 : decode cX4_law 132 = .ok (.ifCond .ne 7, 3) := by decide +kernel
theorem dX4_law_135 : decode cX4_law 135 = .ok (.iconst 1, 1) := by decide +kernel
theorem dX4_law_136 : decode cX4_law 136 = .ok (.goto 4, 3) := by decide +kernel
theorem dX4_law_139 : decode cX4_law 139 = .ok (.iconst 0, 1) := by decide +kernel
theorem dX4_law_140 : decode cX4_law 140 = .ok (.iconst 1, 1) := by decide +kernel
theorem dX4_law_141 : decode cX4_law 141 = .ok (.invokevirtual 105, 3) := by decide +kernel
theorem dX4_law_144 : decode cX4_law 144 = .ok (.ifCond .eq 5, 3) := by decide +kernel
theorem dX4_law_147 : decode cX4_law 147 = .ok (.iconst 0, 1) := by decide +kernel
theorem dX4_law_148 : decode cX4_law 148 = .ok (.ireturn, 1) := by decide +kernel
theorem dX4_law_149 : decode cX4_law 149 = .ok (.iconst 0, 1) := by decide +kernel
theorem dX4_law_150 : decode cX4_law 150 = .ok (.istore_n 3, 1) := by decide +kernel
theorem dX4_law_151 : decode cX4_law 151 = .ok (.iload_n 3, 1) := by decide +kernel
theorem dX4_law_152 : decode cX4_law 152 = .ok (.iconst 4, 1) := by decide +kernel
theorem dX4_law_153 : decode cX4_law 153 = .ok (.if_icmp .ge 21, 3) := by decide +kernel
theorem dX4_law_156 : decode cX4_law 156 = .ok (.aload_n 0, 1) := by decide +kernel
theorem dX4_law_157 : decode cX4_law 157 = .ok (.getfield 57, 3) := by decide +kernel
theorem dX4_law_160 : decode cX4_law 160 = .ok (.iload_n 3, 1) := by decide +kernel
theorem dX4_law_161 : decode cX4_law 161 = .ok (.aload_n 0, 1) := by decide +kernel
theorem dX4_law_162 : decode cX4_law 162 = .ok (.getfield 60, 3) := by decide +kernel
theorem dX4_law_165 : decode cX4_law 165 = .ok (.iload_n 3, 1) := by decide +kernel
theorem dX4_law_166 : decode cX4_law 166 = .ok (.iaload, 1) := by decide +kernel
theorem dX4_law_167 : decode cX4_law 167 = .ok (.iastore, 1) := by decide +kernel
theorem dX4_law_168 : decode cX4_law 168 = .ok (.iinc 3 1, 3) := by decide +kernel
theorem dX4_law_171 : decode cX4_law 171 = .ok (.goto (-20), 3) := by decide +kernel
theorem dX4_law_174 : decode cX4_law 174 = .ok (.iload_n 1, 1) := by decide +kernel
theorem dX4_law_175 : decode cX4_law 175 = .ok (.ireturn, 1) := by decide +kernel
theorem dX4_readTerm_0 : decode cX4_readTerm 0 = .ok (.aload_n 0, 1) := by decide +kernel
theorem dX4_readTerm_1 : decode cX4_readTerm 1 = .ok (.invokevirtual 200, 3) := by decide +kernel
theorem dX4_readTerm_4 : decode cX4_readTerm 4 = .ok (.aload_n 0, 1) := by decide +kernel
theorem dX4_readTerm_5 : decode cX4_readTerm 5 = .ok (.ldc 203, 2) := by decide +kernel
theorem dX4_readTerm_7 : decode cX4_readTerm 7 = .ok (.invokevirtual 205, 3) := by decide +kernel
theorem dX4_readTerm_10 : decode cX4_readTerm 10 = .ok (.ifCond .eq 11, 3) := by decide +kernel
theorem dX4_readTerm_13 : decode cX4_readTerm 13 = .ok (.aload_n 0, 1) := by decide +kernel
theorem dX4_readTerm_14 : decode cX4_readTerm 14 = .ok (.iconst 0, 1) := by decide +kernel
theorem dX4_readTerm_15 : decode cX4_readTerm 15 = .ok (.bipush 100, 2) := by decide +kernel
theorem dX4_readTerm_17 : decode cX4_readTerm 17 = .ok (.invokevirtual 209, 3) := by decide +kernel
theorem dX4_readTerm_20 : decode cX4_readTerm 20 = .ok (.ireturn, 1) := by decide +kernel
theorem dX4_readTerm_21 : decode cX4_readTerm 21 = .ok (.aload_n 0, 1) := by decide +kernel
theorem dX4_readTerm_22 : decode cX4_readTerm 22 = .ok (.ldc 212, 2) := by decide +kernel
theorem dX4_readTerm_24 : decode cX4_readTerm 24 = .ok (.invokevirtual 205, 3) := by decide +kernel
theorem dX4_readTerm_27 : decode cX4_readTerm 27 = .ok (.ifCond .eq 12, 3) := by decide +kernel
theorem dX4_readTerm_30 : decode cX4_readTerm 30 = .ok (.aload_n 0, 1) := by decide +kernel
theorem dX4_readTerm_31 : decode cX4_readTerm 31 = .ok (.iconst 1, 1) := by decide +kernel
theorem dX4_readTerm_32 : decode cX4_readTerm 32 = .ok (.sipush 1000, 3) := by decide +kernel
theorem dX4_readTerm_35 : decode cX4_readTerm 35 = .ok (.invokevirtual 209, 3) := by decide +kernel
theorem dX4_readTerm_38 : decode cX4_readTerm 38 = .ok (.ireturn, 1) := by decide +kernel
theorem dX4_readTerm_39 : decode cX4_readTerm 39 = .ok (.aload_n 0, 1) := by decide +kernel
theorem dX4_readTerm_40 : decode cX4_readTerm 40 = .ok (.ldc 214, 2) := by decide +kernel
theorem dX4_readTerm_42 : decode cX4_readTerm 42 = .ok (.invokevirtual 205, 3) := by decide +kernel
theorem dX4_readTerm_45 : decode cX4_readTerm 45 = .ok (.ifCond .eq 11, 3) := by decide +kernel
theorem dX4_readTerm_48 : decode cX4_readTerm 48 = .ok (.aload_n 0, 1) := by decide +kernel
theorem dX4_readTerm_49 : decode cX4_readTerm 49 = .ok (.iconst 3, 1) := by decide +kernel
theorem dX4_readTerm_50 : decode cX4_readTerm 50 = .ok (.bipush 100, 2) := by decide +kernel
theorem dX4_readTerm_52 : decode cX4_readTerm 52 = .ok (.invokevirtual 209, 3) := by decide +kernel
theorem dX4_readTerm_55 : decode cX4_readTerm 55 = .ok (.ireturn, 1) := by decide +kernel
theorem dX4_readTerm_56 : decode cX4_readTerm 56 = .ok (.aload_n 0, 1) := by decide +kernel
theorem dX4_readTerm_57 : decode cX4_readTerm 57 = .ok (.ldc 216, 2) := by decide +kernel
theorem dX4_readTerm_59 : decode cX4_readTerm 59 = .ok (.invokevirtual 205, 3) := by decide +kernel
theorem dX4_readTerm_62 : decode cX4_readTerm 62 = .ok (.ifCond .ne 5, 3) := by decide +kernel
theorem dX4_readTerm_65 : decode cX4_readTerm 65 = .ok (.iconst 0, 1) := by decide +kernel
theorem dX4_readTerm_66 : decode cX4_readTerm 66 = .ok (.ireturn, 1) := by decide +kernel
theorem dX4_readTerm_67 : decode cX4_readTerm 67 = .ok (.aload_n 0, 1) := by decide +kernel
theorem dX4_readTerm_68 : decode cX4_readTerm 68 = .ok (.invokevirtual 200, 3) := by decide +kernel
theorem dX4_readTerm_71 : decode cX4_readTerm 71 = .ok (.aload_n 0, 1) := by decide +kernel
theorem dX4_readTerm_72 : decode cX4_readTerm 72 = .ok (.getfield 60, 3) := by decide +kernel
theorem dX4_readTerm_75 : decode cX4_readTerm 75 = .ok (.iconst 2, 1) := by decide +kernel
theorem dX4_readTerm_76 : decode cX4_readTerm 76 = .ok (.aload_n 0, 1) := by decide +kernel
theorem dX4_readTerm_77 : decode cX4_readTerm 77 = .ok (.ldc 218, 2) := by decide +kernel
theorem dX4_readTerm_79 : decode cX4_readTerm 79 = .ok (.invokevirtual 205, 3) := by decide +kernel
theorem dX4_readTerm_82 : decode cX4_readTerm 82 = .ok (.ifCond .eq 7, 3) := by decide +kernel
theorem dX4_readTerm_85 : decode cX4_readTerm 85 = .ok (.iconst 1, 1) := by decide +kernel
theorem dX4_readTerm_86 : decode cX4_readTerm 86 = .ok (.goto 4, 3) := by decide +kernel
theorem dX4_readTerm_89 : decode cX4_readTerm 89 = .ok (.iconst 0, 1) := by decide +kernel
theorem dX4_readTerm_90 : decode cX4_readTerm 90 = .ok (.iastore, 1) := by decide +kernel
theorem dX4_readTerm_91 : decode cX4_readTerm 91 = .ok (.aload_n 0, 1) := by decide +kernel
theorem dX4_readTerm_92 : decode cX4_readTerm 92 = .ok (.getfield 60, 3) := by decide +kernel
theorem dX4_readTerm_95 : decode cX4_readTerm 95 = .ok (.iconst 2, 1) := by decide +kernel
theorem dX4_readTerm_96 : decode cX4_readTerm 96 = .ok (.iaload, 1) := by decide +kernel
theorem dX4_readTerm_97 : decode cX4_readTerm 97 = .ok (.iconst 1, 1) := by decide +kernel
theorem dX4_readTerm_98 : decode cX4_readTerm 98 = .ok (.if_icmp .eq 12, 3) := by decide +kernel
theorem dX4_readTerm_101 : decode cX4_readTerm 101 = .ok (.aload_n 0, 1) := by decide +kernel
theorem dX4_readTerm_102 : decode cX4_readTerm 102 = .ok (.ldc 220, 2) := by decide +kernel
theorem dX4_readTerm_104 : decode cX4_readTerm 104 = .ok (.invokevirtual 205, 3) := by decide +kernel
theorem dX4_readTerm_107 : decode cX4_readTerm 107 = .ok (.ifCond .eq 7, 3) := by decide +kernel
theorem dX4_readTerm_110 : decode cX4_readTerm 110 = .ok (.iconst 1, 1) := by decide +kernel
theorem dX4_readTerm_111 : decode cX4_readTerm 111 = .ok (.goto 4, 3) := by decide +kernel
theorem dX4_readTerm_114 : decode cX4_readTerm 114 = .ok (.iconst 0, 1) := by decide +kernel
theorem dX4_readTerm_115 : decode cX4_readTerm 115 = .ok (.ireturn, 1) := by decide +kernel
theorem dX4_word_0 : decode cX4_word 0 = .ok (.aload_n 0, 1) := by decide +kernel
theorem dX4_word_1 : decode cX4_word 1 = .ok (.invokevirtual 197, 3) := by decide +kernel
theorem dX4_word_4 : decode cX4_word 4 = .ok (.aload_n 0, 1) := by decide +kernel
theorem dX4_word_5 : decode cX4_word 5 = .ok (.bipush 97, 2) := by decide +kernel
theorem dX4_word_7 : decode cX4_word 7 = .ok (.bipush 122, 2) := by decide +kernel
theorem dX4_word_9 : decode cX4_word 9 = .ok (.invokevirtual 182, 3) := by decide +kernel
theorem dX4_word_12 : decode cX4_word 12 = .ok (.ifCond .eq 16, 3) := by decide +kernel
theorem dX4_word_15 : decode cX4_word 15 = .ok (.aload_n 0, 1) := by decide +kernel
theorem dX4_word_16 : decode cX4_word 16 = .ok (.dup, 1) := by decide +kernel
theorem dX4_word_17 : decode cX4_word 17 = .ok (.getfield 176, 3) := by decide +kernel
theorem dX4_word_20 : decode cX4_word 20 = .ok (.iconst 1, 1) := by decide +kernel
theorem dX4_word_21 : decode cX4_word 21 = .ok (.iadd, 1) := by decide +kernel
theorem dX4_word_22 : decode cX4_word 22 = .ok (.putfield 176, 3) := by decide +kernel
theorem dX4_word_25 : decode cX4_word 25 = .ok (.goto (-21), 3) := by decide +kernel
theorem dX4_word_28 : decode cX4_word 28 = .ok (.return_, 1) := by decide +kernel
theorem dX4_blanks_0 : decode cX4_blanks 0 = .ok (.aload_n 0, 1) := by decide +kernel
theorem dX4_blanks_1 : decode cX4_blanks 1 = .ok (.bipush 32, 2) := by decide +kernel
theorem dX4_blanks_3 : decode cX4_blanks 3 = .ok (.bipush 32, 2) := by decide +kernel
theorem dX4_blanks_5 : decode cX4_blanks 5 = .ok (.invokevirtual 182, 3) := by decide +kernel
theorem dX4_blanks_8 : decode cX4_blanks 8 = .ok (.ifCond .eq 16, 3) := by decide +kernel
theorem dX4_blanks_11 : decode cX4_blanks 11 = .ok (.aload_n 0, 1) := by decide +kernel
theorem dX4_blanks_12 : decode cX4_blanks 12 = .ok (.dup, 1) := by decide +kernel
theorem dX4_blanks_13 : decode cX4_blanks 13 = .ok (.getfield 176, 3) := by decide +kernel
theorem dX4_blanks_16 : decode cX4_blanks 16 = .ok (.iconst 1, 1) := by decide +kernel
theorem dX4_blanks_17 : decode cX4_blanks 17 = .ok (.iadd, 1) := by decide +kernel
theorem dX4_blanks_18 : decode cX4_blanks 18 = .ok (.putfield 176, 3) := by decide +kernel
theorem dX4_blanks_21 : decode cX4_blanks 21 = .ok (.goto (-21), 3) := by decide +kernel
theorem dX4_blanks_24 : decode cX4_blanks 24 = .ok (.aload_n 0, 1) := by decide +kernel
theorem dX4_blanks_25 : decode cX4_blanks 25 = .ok (.aload_n 0, 1) := by decide +kernel
theorem dX4_blanks_26 : decode cX4_blanks 26 = .ok (.getfield 176, 3) := by decide +kernel
theorem dX4_blanks_29 : decode cX4_blanks 29 = .ok (.putfield 185, 3) := by decide +kernel
theorem dX4_blanks_32 : decode cX4_blanks 32 = .ok (.return_, 1) := by decide +kernel
theorem dX4_isAt_0 : decode cX4_isAt 0 = .ok (.aload_n 0, 1) := by decide +kernel
theorem dX4_isAt_1 : decode cX4_isAt 1 = .ok (.getfield 176, 3) := by decide +kernel
theorem dX4_isAt_4 : decode cX4_isAt 4 = .ok (.aload_n 0, 1) := by decide +kernel
theorem dX4_isAt_5 : decode cX4_isAt 5 = .ok (.getfield 179, 3) := by decide +kernel
theorem dX4_isAt_8 : decode cX4_isAt 8 = .ok (.if_icmp .ge 33, 3) := by decide +kernel
theorem dX4_isAt_11 : decode cX4_isAt 11 = .ok (.aload_n 0, 1) := by decide +kernel
theorem dX4_isAt_12 : decode cX4_isAt 12 = .ok (.getfield 63, 3) := by decide +kernel
theorem dX4_isAt_15 : decode cX4_isAt 15 = .ok (.aload_n 0, 1) := by decide +kernel
theorem dX4_isAt_16 : decode cX4_isAt 16 = .ok (.getfield 176, 3) := by decide +kernel
theorem dX4_isAt_19 : decode cX4_isAt 19 = .ok (.baload, 1) := by decide +kernel
theorem dX4_isAt_20 : decode cX4_isAt 20 = .ok (.iload_n 1, 1) := by decide +kernel
theorem dX4_isAt_21 : decode cX4_isAt 21 = .ok (.if_icmp .lt 20, 3) := by decide +kernel
theorem dX4_isAt_24 : decode cX4_isAt 24 = .ok (.aload_n 0, 1) := by decide +kernel
theorem dX4_isAt_25 : decode cX4_isAt 25 = .ok (.getfield 63, 3) := by decide +kernel
theorem dX4_isAt_28 : decode cX4_isAt 28 = .ok (.aload_n 0, 1) := by decide +kernel
theorem dX4_isAt_29 : decode cX4_isAt 29 = .ok (.getfield 176, 3) := by decide +kernel
theorem dX4_isAt_32 : decode cX4_isAt 32 = .ok (.baload, 1) := by decide +kernel
theorem dX4_isAt_33 : decode cX4_isAt 33 = .ok (.iload_n 2, 1) := by decide +kernel
theorem dX4_isAt_34 : decode cX4_isAt 34 = .ok (.if_icmp .gt 7, 3) := by decide +kernel
theorem dX4_isAt_37 : decode cX4_isAt 37 = .ok (.iconst 1, 1) := by decide +kernel
theorem dX4_isAt_38 : decode cX4_isAt 38 = .ok (.goto 4, 3) := by decide +kernel
theorem dX4_isAt_41 : decode cX4_isAt 41 = .ok (.iconst 0, 1) := by decide +kernel
theorem dX4_isAt_42 : decode cX4_isAt 42 = .ok (.ireturn, 1) := by decide +kernel
theorem dX4_isWord_0 : decode cX4_isWord 0 = .ok (.aload_n 0, 1) := by decide +kernel
theorem dX4_isWord_1 : decode cX4_isWord 1 = .ok (.getfield 176, 3) := by decide +kernel
theorem dX4_isWord_4 : decode cX4_isWord 4 = .ok (.aload_n 0, 1) := by decide +kernel
theorem dX4_isWord_5 : decode cX4_isWord 5 = .ok (.getfield 185, 3) := by decide +kernel
theorem dX4_isWord_8 : decode cX4_isWord 8 = .ok (.isub, 1) := by decide +kernel
theorem dX4_isWord_9 : decode cX4_isWord 9 = .ok (.aload_n 1, 1) := by decide +kernel
theorem dX4_isWord_10 : decode cX4_isWord 10 = .ok (.invokevirtual 188, 3) := by decide +kernel
theorem dX4_isWord_13 : decode cX4_isWord 13 = .ok (.if_icmp .ne 7, 3) := by decide +kernel
theorem dX4_isWord_16 : decode cX4_isWord 16 = .ok (.iconst 1, 1) := by decide +kernel
theorem dX4_isWord_17 : decode cX4_isWord 17 = .ok (.goto 4, 3) := by decide +kernel
theorem dX4_isWord_20 : decode cX4_isWord 20 = .ok (.iconst 0, 1) := by decide +kernel
theorem dX4_isWord_21 : decode cX4_isWord 21 = .ok (.istore_n 2, 1) := by decide +kernel
theorem dX4_isWord_22 : decode cX4_isWord 22 = .ok (.iconst 0, 1) := by decide +kernel
theorem dX4_isWord_23 : decode cX4_isWord 23 = .ok (.istore_n 3, 1) := by decide +kernel
theorem dX4_isWord_24 : decode cX4_isWord 24 = .ok (.iload_n 2, 1) := by decide +kernel
theorem dX4_isWord_25 : decode cX4_isWord 25 = .ok (.ifCond .eq 42, 3) := by decide +kernel
theorem dX4_isWord_28 : decode cX4_isWord 28 = .ok (.iload_n 3, 1) := by decide +kernel
theorem dX4_isWord_29 : decode cX4_isWord 29 = .ok (.aload_n 1, 1) := by decide +kernel
theorem dX4_isWord_30 : decode cX4_isWord 30 = .ok (.invokevirtual 188, 3) := by decide +kernel
theorem dX4_isWord_33 : decode cX4_isWord 33 = .ok (.if_icmp .ge 34, 3) := by decide +kernel
theorem dX4_isWord_36 : decode cX4_isWord 36 = .ok (.aload_n 0, 1) := by decide +kernel
theorem dX4_isWord_37 : decode cX4_isWord 37 = .ok (.getfield 63, 3) := by decide +kernel
theorem dX4_isWord_40 : decode cX4_isWord 40 = .ok (.aload_n 0, 1) := by decide +kernel
theorem dX4_isWord_41 : decode cX4_isWord 41 = .ok (.getfield 185, 3) := by decide +kernel
theorem dX4_isWord_44 : decode cX4_isWord 44 = .ok (.iload_n 3, 1) := by decide +kernel
theorem dX4_isWord_45 : decode cX4_isWord 45 = .ok (.iadd, 1) := by decide +kernel
theorem dX4_isWord_46 : decode cX4_isWord 46 = .ok (.baload, 1) := by decide +kernel
theorem dX4_isWord_47 : decode cX4_isWord 47 = .ok (.aload_n 1, 1) := by decide +kernel
theorem dX4_isWord_48 : decode cX4_isWord 48 = .ok (.iload_n 3, 1) := by decide +kernel
theorem dX4_isWord_49 : decode cX4_isWord 49 = .ok (.invokevirtual 193, 3) := by decide +kernel
theorem dX4_isWord_52 : decode cX4_isWord 52 = .ok (.if_icmp .ne 7, 3) := by decide +kernel
theorem dX4_isWord_55 : decode cX4_isWord 55 = .ok (.iconst 1, 1) := by decide +kernel
theorem dX4_isWord_56 : decode cX4_isWord 56 = .ok (.goto 4, 3) := by decide +kernel
theorem dX4_isWord_59 : decode cX4_isWord 59 = .ok (.iconst 0, 1) := by decide +kernel
theorem dX4_isWord_60 : decode cX4_isWord 60 = .ok (.istore_n 2, 1) := by decide +kernel
theorem dX4_isWord_61 : decode cX4_isWord 61 = .ok (.iinc 3 1, 3) := by decide +kernel
theorem dX4_isWord_64 : decode cX4_isWord 64 = .ok (.goto (-40), 3) := by decide +kernel
theorem dX4_isWord_67 : decode cX4_isWord 67 = .ok (.iload_n 2, 1) := by decide +kernel
theorem dX4_isWord_68 : decode cX4_isWord 68 = .ok (.ireturn, 1) := by decide +kernel
theorem dX4_number_0 : decode cX4_number 0 = .ok (.aload_n 0, 1) := by decide +kernel
theorem dX4_number_1 : decode cX4_number 1 = .ok (.invokevirtual 197, 3) := by decide +kernel
theorem dX4_number_4 : decode cX4_number 4 = .ok (.iconst 0, 1) := by decide +kernel
theorem dX4_number_5 : decode cX4_number 5 = .ok (.istore_n 3, 1) := by decide +kernel
theorem dX4_number_6 : decode cX4_number 6 = .ok (.aload_n 0, 1) := by decide +kernel
theorem dX4_number_7 : decode cX4_number 7 = .ok (.bipush 48, 2) := by decide +kernel
theorem dX4_number_9 : decode cX4_number 9 = .ok (.bipush 57, 2) := by decide +kernel
theorem dX4_number_11 : decode cX4_number 11 = .ok (.invokevirtual 182, 3) := by decide +kernel
theorem dX4_number_14 : decode cX4_number 14 = .ok (.ifCond .eq 51, 3) := by decide +kernel
theorem dX4_number_17 : decode cX4_number 17 = .ok (.aload_n 0, 1) := by decide +kernel
theorem dX4_number_18 : decode cX4_number 18 = .ok (.getfield 176, 3) := by decide +kernel
theorem dX4_number_21 : decode cX4_number 21 = .ok (.aload_n 0, 1) := by decide +kernel
theorem dX4_number_22 : decode cX4_number 22 = .ok (.getfield 185, 3) := by decide +kernel
theorem dX4_number_25 : decode cX4_number 25 = .ok (.isub, 1) := by decide +kernel
theorem dX4_number_26 : decode cX4_number 26 = .ok (.iconst 4, 1) := by decide +kernel
theorem dX4_number_27 : decode cX4_number 27 = .ok (.if_icmp .ge 23, 3) := by decide +kernel
theorem dX4_number_30 : decode cX4_number 30 = .ok (.bipush 10, 2) := by decide +kernel
theorem dX4_number_32 : decode cX4_number 32 = .ok (.iload_n 3, 1) := by decide +kernel
theorem dX4_number_33 : decode cX4_number 33 = .ok (.imul, 1) := by decide +kernel
theorem dX4_number_34 : decode cX4_number 34 = .ok (.aload_n 0, 1) := by decide +kernel
theorem dX4_number_35 : decode cX4_number 35 = .ok (.getfield 63, 3) := by decide +kernel
theorem dX4_number_38 : decode cX4_number 38 = .ok (.aload_n 0, 1) := by decide +kernel
theorem dX4_number_39 : decode cX4_number 39 = .ok (.getfield 176, 3) := by decide +kernel
theorem dX4_number_42 : decode cX4_number 42 = .ok (.baload, 1) := by decide +kernel
theorem dX4_number_43 : decode cX4_number 43 = .ok (.iadd, 1) := by decide +kernel
theorem dX4_number_44 : decode cX4_number 44 = .ok (.bipush 48, 2) := by decide +kernel
theorem dX4_number_46 : decode cX4_number 46 = .ok (.isub, 1) := by decide +kernel
theorem dX4_number_47 : decode cX4_number 47 = .ok (.goto 4, 3) := by decide +kernel
theorem dX4_number_50 : decode cX4_number 50 = .ok (.iload_n 3, 1) := by decide +kernel
theorem dX4_number_51 : decode cX4_number 51 = .ok (.istore_n 3, 1) := by decide +kernel
theorem dX4_number_52 : decode cX4_number 52 = .ok (.aload_n 0, 1) := by decide +kernel
theorem dX4_number_53 : decode cX4_number 53 = .ok (.dup, 1) := by decide +kernel
theorem dX4_number_54 : decode cX4_number 54 = .ok (.getfield 176, 3) := by decide +kernel
theorem dX4_number_57 : decode cX4_number 57 = .ok (.iconst 1, 1) := by decide +kernel
theorem dX4_number_58 : decode cX4_number 58 = .ok (.iadd, 1) := by decide +kernel
theorem dX4_number_59 : decode cX4_number 59 = .ok (.putfield 176, 3) := by decide +kernel
theorem dX4_number_62 : decode cX4_number 62 = .ok (.goto (-56), 3) := by decide +kernel
theorem dX4_number_65 : decode cX4_number 65 = .ok (.aload_n 0, 1) := by decide +kernel
theorem dX4_number_66 : decode cX4_number 66 = .ok (.getfield 60, 3) := by decide +kernel
theorem dX4_number_69 : decode cX4_number 69 = .ok (.iload_n 1, 1) := by decide +kernel
theorem dX4_number_70 : decode cX4_number 70 = .ok (.iload_n 3, 1) := by decide +kernel
theorem dX4_number_71 : decode cX4_number 71 = .ok (.iastore, 1) := by decide +kernel
theorem dX4_number_72 : decode cX4_number 72 = .ok (.aload_n 0, 1) := by decide +kernel
theorem dX4_number_73 : decode cX4_number 73 = .ok (.getfield 176, 3) := by decide +kernel
theorem dX4_number_76 : decode cX4_number 76 = .ok (.aload_n 0, 1) := by decide +kernel
theorem dX4_number_77 : decode cX4_number 77 = .ok (.getfield 185, 3) := by decide +kernel
theorem dX4_number_80 : decode cX4_number 80 = .ok (.if_icmp .le 25, 3) := by decide +kernel
theorem dX4_number_83 : decode cX4_number 83 = .ok (.aload_n 0, 1) := by decide +kernel
theorem dX4_number_84 : decode cX4_number 84 = .ok (.getfield 176, 3) := by decide +kernel
theorem dX4_number_87 : decode cX4_number 87 = .ok (.aload_n 0, 1) := by decide +kernel
theorem dX4_number_88 : decode cX4_number 88 = .ok (.getfield 185, 3) := by decide +kernel
theorem dX4_number_91 : decode cX4_number 91 = .ok (.isub, 1) := by decide +kernel
theorem dX4_number_92 : decode cX4_number 92 = .ok (.iconst 5, 1) := by decide +kernel
theorem dX4_number_93 : decode cX4_number 93 = .ok (.if_icmp .ge 12, 3) := by decide +kernel
theorem dX4_number_96 : decode cX4_number 96 = .ok (.iload_n 3, 1) := by decide +kernel
theorem dX4_number_97 : decode cX4_number 97 = .ok (.iload_n 2, 1) := by decide +kernel
theorem dX4_number_98 : decode cX4_number 98 = .ok (.if_icmp .gt 7, 3) := by decide +kernel
theorem dX4_number_101 : decode cX4_number 101 = .ok (.iconst 1, 1) := by decide +kernel
theorem dX4_number_102 : decode cX4_number 102 = .ok (.goto 4, 3) := by decide +kernel
theorem dX4_number_105 : decode cX4_number 105 = .ok (.iconst 0, 1) := by decide +kernel
theorem dX4_number_106 : decode cX4_number 106 = .ok (.ireturn, 1) := by decide +kernel
theorem dX4_fault_0 : decode cX4_fault 0 = .ok (.aload_n 0, 1) := by decide +kernel
theorem dX4_fault_1 : decode cX4_fault 1 = .ok (.iconst 0, 1) := by decide +kernel
theorem dX4_fault_2 : decode cX4_fault 2 = .ok (.putfield 88, 3) := by decide +kernel
theorem dX4_fault_5 : decode cX4_fault 5 = .ok (.aload_n 0, 1) := by decide +kernel
theorem dX4_fault_6 : decode cX4_fault 6 = .ok (.getfield 67, 3) := by decide +kernel
theorem dX4_fault_9 : decode cX4_fault 9 = .ok (.ireturn, 1) := by decide +kernel
theorem dX4_says_0 : decode cX4_says 0 = .ok (.aload_n 0, 1) := by decide +kernel
theorem dX4_says_1 : decode cX4_says 1 = .ok (.iconst 0, 1) := by decide +kernel
theorem dX4_says_2 : decode cX4_says 2 = .ok (.putfield 88, 3) := by decide +kernel
theorem dX4_says_5 : decode cX4_says 5 = .ok (.aload_n 0, 1) := by decide +kernel
theorem dX4_says_6 : decode cX4_says 6 = .ok (.iload_n 1, 1) := by decide +kernel
theorem dX4_says_7 : decode cX4_says 7 = .ok (.iconst 0, 1) := by decide +kernel
theorem dX4_says_8 : decode cX4_says 8 = .ok (.iconst 3, 1) := by decide +kernel
theorem dX4_says_9 : decode cX4_says 9 = .ok (.invokestatic 94, 3) := by decide +kernel
theorem dX4_says_12 : decode cX4_says 12 = .ok (.ifCond .ne 7, 3) := by decide +kernel
theorem dX4_says_15 : decode cX4_says 15 = .ok (.iconst 1, 1) := by decide +kernel
theorem dX4_says_16 : decode cX4_says 16 = .ok (.goto 4, 3) := by decide +kernel
theorem dX4_says_19 : decode cX4_says 19 = .ok (.iconst 0, 1) := by decide +kernel
theorem dX4_says_20 : decode cX4_says 20 = .ok (.iconst 1, 1) := by decide +kernel
theorem dX4_says_21 : decode cX4_says 21 = .ok (.invokevirtual 105, 3) := by decide +kernel
theorem dX4_says_24 : decode cX4_says 24 = .ok (.ifCond .eq 7, 3) := by decide +kernel
theorem dX4_says_27 : decode cX4_says 27 = .ok (.iconst 0, 1) := by decide +kernel
theorem dX4_says_28 : decode cX4_says 28 = .ok (.goto 9, 3) := by decide +kernel
theorem dX4_says_31 : decode cX4_says 31 = .ok (.aload_n 0, 1) := by decide +kernel
theorem dX4_says_32 : decode cX4_says 32 = .ok (.getfield 57, 3) := by decide +kernel
theorem dX4_says_35 : decode cX4_says 35 = .ok (.iload_n 1, 1) := by decide +kernel
theorem dX4_says_36 : decode cX4_says 36 = .ok (.iaload, 1) := by decide +kernel
theorem dX4_says_37 : decode cX4_says 37 = .ok (.ireturn, 1) := by decide +kernel
theorem dX4_pays_0 : decode cX4_pays 0 = .ok (.aload_n 0, 1) := by decide +kernel
theorem dX4_pays_1 : decode cX4_pays 1 = .ok (.iconst 0, 1) := by decide +kernel
theorem dX4_pays_2 : decode cX4_pays 2 = .ok (.putfield 88, 3) := by decide +kernel
theorem dX4_pays_5 : decode cX4_pays 5 = .ok (.aload_n 0, 1) := by decide +kernel
theorem dX4_pays_6 : decode cX4_pays 6 = .ok (.aload_n 0, 1) := by decide +kernel
