set_option maxRecDepth 100000
theorem dX1_isAllowed_159 : decode cX1_isAllowed 159 = .ok (.iload_n 2, 1) := by decide +kernel
theorem dX1_isAllowed_160 : decode cX1_isAllowed 160 = .ok (.ireturn, 1) := by decide +kernel
theorem dX1_dig_0 : decode cX1_dig 0 = .ok (.aload_n 0, 1) := by decide +kernel
theorem dX1_dig_1 : decode cX1_dig 1 = .ok (.iload_n 1, 1) := by decide +kernel
theorem dX1_dig_2 : decode cX1_dig 2 = .ok (.invokevirtual 90, 3) := by decide +kernel
theorem dX1_dig_5 : decode cX1_dig 5 = .ok (.astore 4, 2) := by decide +kernel
theorem dX1_dig_7 : decode cX1_dig 7 = .ok (.aload 4, 2) := by decide +kernel
theorem dX1_dig_9 : decode cX1_dig 9 = .ok (.invokevirtual 94, 3) := by decide +kernel
theorem dX1_dig_12 : decode cX1_dig 12 = .ok (.ifCond .ne 7, 3) := by decide +kernel
theorem dX1_dig_15 : decode cX1_dig 15 = .ok (.iconst 1, 1) := by decide +kernel
theorem dX1_dig_16 : decode cX1_dig 16 = .ok (.goto 4, 3) := by decide +kernel
theorem dX1_dig_19 : decode cX1_dig 19 = .ok (.iconst 0, 1) := by decide +kernel
theorem dX1_dig_20 : decode cX1_dig 20 = .ok (.invokestatic 98, 3) := by decide +kernel
theorem dX1_dig_23 : decode cX1_dig 23 = .ok (.iload_n 2, 1) := by decide +kernel
theorem dX1_dig_24 : decode cX1_dig 24 = .ok (.invokestatic 145, 3) := by decide +kernel
theorem dX1_dig_27 : decode cX1_dig 27 = .ok (.ifCond .eq 17, 3) := by decide +kernel
theorem dX1_dig_30 : decode cX1_dig 30 = .ok (.iload_n 3, 1) := by decide +kernel
theorem dX1_dig_31 : decode cX1_dig 31 = .ok (.iconst 1, 1) := by decide +kernel
theorem dX1_dig_32 : decode cX1_dig 32 = .ok (.bipush 15, 2) := by decide +kernel
theorem dX1_dig_34 : decode cX1_dig 34 = .ok (.invokestatic 79, 3) := by decide +kernel
theorem dX1_dig_37 : decode cX1_dig 37 = .ok (.ifCond .eq 7, 3) := by decide +kernel
theorem dX1_dig_40 : decode cX1_dig 40 = .ok (.iconst 1, 1) := by decide +kernel
theorem dX1_dig_41 : decode cX1_dig 41 = .ok (.goto 4, 3) := by decide +kernel
theorem dX1_dig_44 : decode cX1_dig 44 = .ok (.iconst 0, 1) := by decide +kernel
theorem dX1_dig_45 : decode cX1_dig 45 = .ok (.invokestatic 115, 3) := by decide +kernel
theorem dX1_dig_48 : decode cX1_dig 48 = .ok (.aload_n 0, 1) := by decide +kernel
theorem dX1_dig_49 : decode cX1_dig 49 = .ok (.aload 4, 2) := by decide +kernel
theorem dX1_dig_51 : decode cX1_dig 51 = .ok (.invokevirtual 141, 3) := by decide +kernel
theorem dX1_dig_54 : decode cX1_dig 54 = .ok (.ifCond .eq 12, 3) := by decide +kernel
theorem dX1_dig_57 : decode cX1_dig 57 = .ok (.aload_n 0, 1) := by decide +kernel
theorem dX1_dig_58 : decode cX1_dig 58 = .ok (.getfield 101, 3) := by decide +kernel
theorem dX1_dig_61 : decode cX1_dig 61 = .ok (.bipush 60, 2) := by decide +kernel
theorem dX1_dig_63 : decode cX1_dig 63 = .ok (.if_icmp .ne 5, 3) := by decide +kernel
theorem dX1_dig_66 : decode cX1_dig 66 = .ok (.iconst (-1), 1) := by decide +kernel
theorem dX1_dig_67 : decode cX1_dig 67 = .ok (.ireturn, 1) := by decide +kernel
theorem dX1_dig_68 : decode cX1_dig 68 = .ok (.aload 4, 2) := by decide +kernel
theorem dX1_dig_70 : decode cX1_dig 70 = .ok (.aload_n 0, 1) := by decide +kernel
theorem dX1_dig_71 : decode cX1_dig 71 = .ok (.getfield 149, 3) := by decide +kernel
theorem dX1_dig_74 : decode cX1_dig 74 = .ok (.putfield 152, 3) := by decide +kernel
theorem dX1_dig_77 : decode cX1_dig 77 = .ok (.aload 4, 2) := by decide +kernel
theorem dX1_dig_79 : decode cX1_dig 79 = .ok (.aload_n 0, 1) := by decide +kernel
theorem dX1_dig_80 : decode cX1_dig 80 = .ok (.getfield 155, 3) := by decide +kernel
theorem dX1_dig_83 : decode cX1_dig 83 = .ok (.putfield 158, 3) := by decide +kernel
theorem dX1_dig_86 : decode cX1_dig 86 = .ok (.aload 4, 2) := by decide +kernel
theorem dX1_dig_88 : decode cX1_dig 88 = .ok (.iload_n 3, 1) := by decide +kernel
theorem dX1_dig_89 : decode cX1_dig 89 = .ok (.sipush 1440, 3) := by decide +kernel
theorem dX1_dig_92 : decode cX1_dig 92 = .ok (.imul, 1) := by decide +kernel
theorem dX1_dig_93 : decode cX1_dig 93 = .ok (.putfield 159, 3) := by decide +kernel
theorem dX1_dig_96 : decode cX1_dig 96 = .ok (.aload_n 0, 1) := by decide +kernel
theorem dX1_dig_97 : decode cX1_dig 97 = .ok (.dup, 1) := by decide +kernel
theorem dX1_dig_98 : decode cX1_dig 98 = .ok (.getfield 149, 3) := by decide +kernel
theorem dX1_dig_101 : decode cX1_dig 101 = .ok (.iconst 1, 1) := by decide +kernel
theorem dX1_dig_102 : decode cX1_dig 102 = .ok (.iadd, 1) := by decide +kernel
theorem dX1_dig_103 : decode cX1_dig 103 = .ok (.putfield 149, 3) := by decide +kernel
theorem dX1_dig_106 : decode cX1_dig 106 = .ok (.aload_n 0, 1) := by decide +kernel
theorem dX1_dig_107 : decode cX1_dig 107 = .ok (.aload 4, 2) := by decide +kernel
theorem dX1_dig_109 : decode cX1_dig 109 = .ok (.iload_n 1, 1) := by decide +kernel
theorem dX1_dig_110 : decode cX1_dig 110 = .ok (.iconst 0, 1) := by decide +kernel
theorem dX1_dig_111 : decode cX1_dig 111 = .ok (.aload 4, 2) := by decide +kernel
theorem dX1_dig_113 : decode cX1_dig 113 = .ok (.getfield 159, 3) := by decide +kernel
theorem dX1_dig_116 : decode cX1_dig 116 = .ok (.iload_n 2, 1) := by decide +kernel
theorem dX1_dig_117 : decode cX1_dig 117 = .ok (.invokevirtual 162, 3) := by decide +kernel
theorem dX1_dig_120 : decode cX1_dig 120 = .ok (.aload_n 0, 1) := by decide +kernel
theorem dX1_dig_121 : decode cX1_dig 121 = .ok (.getfield 101, 3) := by decide +kernel
theorem dX1_dig_124 : decode cX1_dig 124 = .ok (.iconst 1, 1) := by decide +kernel
theorem dX1_dig_125 : decode cX1_dig 125 = .ok (.isub, 1) := by decide +kernel
theorem dX1_dig_126 : decode cX1_dig 126 = .ok (.ireturn, 1) := by decide +kernel
theorem dX1_isOwner_0 : decode cX1_isOwner 0 = .ok (.iload_n 0, 1) := by decide +kernel
theorem dX1_isOwner_1 : decode cX1_isOwner 1 = .ok (.iconst 0, 1) := by decide +kernel
theorem dX1_isOwner_2 : decode cX1_isOwner 2 = .ok (.bipush 30, 2) := by decide +kernel
theorem dX1_isOwner_4 : decode cX1_isOwner 4 = .ok (.invokestatic 79, 3) := by decide +kernel
theorem dX1_isOwner_7 : decode cX1_isOwner 7 = .ok (.ireturn, 1) := by decide +kernel
theorem dX1_add_0 : decode cX1_add 0 = .ok (.aload_n 0, 1) := by decide +kernel
theorem dX1_add_1 : decode cX1_add 1 = .ok (.getfield 24, 3) := by decide +kernel
theorem dX1_add_4 : decode cX1_add 4 = .ok (.aload_n 0, 1) := by decide +kernel
theorem dX1_add_5 : decode cX1_add 5 = .ok (.getfield 101, 3) := by decide +kernel
theorem dX1_add_8 : decode cX1_add 8 = .ok (.new 22, 3) := by decide +kernel
theorem dX1_add_11 : decode cX1_add 11 = .ok (.dup, 1) := by decide +kernel
theorem dX1_add_12 : decode cX1_add 12 = .ok (.aload_n 1, 1) := by decide +kernel
theorem dX1_add_13 : decode cX1_add 13 = .ok (.iload_n 2, 1) := by decide +kernel
theorem dX1_add_14 : decode cX1_add 14 = .ok (.iload_n 3, 1) := by decide +kernel
theorem dX1_add_15 : decode cX1_add 15 = .ok (.iload 4, 2) := by decide +kernel
theorem dX1_add_17 : decode cX1_add 17 = .ok (.iload 5, 2) := by decide +kernel
theorem dX1_add_19 : decode cX1_add 19 = .ok (.invokespecial 201, 3) := by decide +kernel
theorem dX1_add_22 : decode cX1_add 22 = .ok (.aastore, 1) := by decide +kernel
theorem dX1_add_23 : decode cX1_add 23 = .ok (.aload_n 0, 1) := by decide +kernel
theorem dX1_add_24 : decode cX1_add 24 = .ok (.dup, 1) := by decide +kernel
theorem dX1_add_25 : decode cX1_add 25 = .ok (.getfield 101, 3) := by decide +kernel
theorem dX1_add_28 : decode cX1_add 28 = .ok (.iconst 1, 1) := by decide +kernel
theorem dX1_add_29 : decode cX1_add 29 = .ok (.iadd, 1) := by decide +kernel
theorem dX1_add_30 : decode cX1_add 30 = .ok (.putfield 101, 3) := by decide +kernel
theorem dX1_add_33 : decode cX1_add 33 = .ok (.return_, 1) := by decide +kernel
theorem dX1_years_0 : decode cX1_years 0 = .ok (.iload_n 1, 1) := by decide +kernel
theorem dX1_years_1 : decode cX1_years 1 = .ok (.iconst 0, 1) := by decide +kernel
theorem dX1_years_2 : decode cX1_years 2 = .ok (.bipush 100, 2) := by decide +kernel
theorem dX1_years_4 : decode cX1_years 4 = .ok (.invokestatic 79, 3) := by decide +kernel
theorem dX1_years_7 : decode cX1_years 7 = .ok (.invokestatic 115, 3) := by decide +kernel
theorem dX1_years_10 : decode cX1_years 10 = .ok (.aload_n 0, 1) := by decide +kernel
theorem dX1_years_11 : decode cX1_years 11 = .ok (.dup, 1) := by decide +kernel
theorem dX1_years_12 : decode cX1_years 12 = .ok (.getfield 155, 3) := by decide +kernel
theorem dX1_years_15 : decode cX1_years 15 = .ok (.iload_n 1, 1) := by decide +kernel
theorem dX1_years_16 : decode cX1_years 16 = .ok (.iadd, 1) := by decide +kernel
theorem dX1_years_17 : decode cX1_years 17 = .ok (.putfield 155, 3) := by decide +kernel
theorem dX1_years_20 : decode cX1_years 20 = .ok (.aload_n 0, 1) := by decide +kernel
theorem dX1_years_21 : decode cX1_years 21 = .ok (.getfield 155, 3) := by decide +kernel
theorem dX1_years_24 : decode cX1_years 24 = .ok (.ireturn, 1) := by decide +kernel
theorem dX1_collapse_0 : decode cX1_collapse 0 = .ok (.aload_n 0, 1) := by decide +kernel
theorem dX1_collapse_1 : decode cX1_collapse 1 = .ok (.iload_n 1, 1) := by decide +kernel
theorem dX1_collapse_2 : decode cX1_collapse 2 = .ok (.invokevirtual 90, 3) := by decide +kernel
theorem dX1_collapse_5 : decode cX1_collapse 5 = .ok (.astore 4, 2) := by decide +kernel
theorem dX1_collapse_7 : decode cX1_collapse 7 = .ok (.iload_n 2, 1) := by decide +kernel
theorem dX1_collapse_8 : decode cX1_collapse 8 = .ok (.iconst 0, 1) := by decide +kernel
theorem dX1_collapse_9 : decode cX1_collapse 9 = .ok (.aload 4, 2) := by decide +kernel
theorem dX1_collapse_11 : decode cX1_collapse 11 = .ok (.getfield 122, 3) := by decide +kernel
theorem dX1_collapse_14 : decode cX1_collapse 14 = .ok (.iconst 1, 1) := by decide +kernel
theorem dX1_collapse_15 : decode cX1_collapse 15 = .ok (.isub, 1) := by decide +kernel
theorem dX1_collapse_16 : decode cX1_collapse 16 = .ok (.invokestatic 79, 3) := by decide +kernel
theorem dX1_collapse_19 : decode cX1_collapse 19 = .ok (.invokestatic 86, 3) := by decide +kernel
theorem dX1_collapse_22 : decode cX1_collapse 22 = .ok (.aload 4, 2) := by decide +kernel
theorem dX1_collapse_24 : decode cX1_collapse 24 = .ok (.invokevirtual 94, 3) := by decide +kernel
theorem dX1_collapse_27 : decode cX1_collapse 27 = .ok (.invokestatic 98, 3) := by decide +kernel
theorem dX1_collapse_30 : decode cX1_collapse 30 = .ok (.aload 4, 2) := by decide +kernel
theorem dX1_collapse_32 : decode cX1_collapse 32 = .ok (.getfield 125, 3) := by decide +kernel
theorem dX1_collapse_35 : decode cX1_collapse 35 = .ok (.iload_n 2, 1) := by decide +kernel
theorem dX1_collapse_36 : decode cX1_collapse 36 = .ok (.aaload, 1) := by decide +kernel
theorem dX1_collapse_37 : decode cX1_collapse 37 = .ok (.getfield 166, 3) := by decide +kernel
theorem dX1_collapse_40 : decode cX1_collapse 40 = .ok (.istore 5, 2) := by decide +kernel
theorem dX1_collapse_42 : decode cX1_collapse 42 = .ok (.aload 4, 2) := by decide +kernel
theorem dX1_collapse_44 : decode cX1_collapse 44 = .ok (.getfield 125, 3) := by decide +kernel
theorem dX1_collapse_47 : decode cX1_collapse 47 = .ok (.iload_n 2, 1) := by decide +kernel
theorem dX1_collapse_48 : decode cX1_collapse 48 = .ok (.aaload, 1) := by decide +kernel
theorem dX1_collapse_49 : decode cX1_collapse 49 = .ok (.iload_n 3, 1) := by decide +kernel
theorem dX1_collapse_50 : decode cX1_collapse 50 = .ok (.putfield 166, 3) := by decide +kernel
theorem dX1_collapse_53 : decode cX1_collapse 53 = .ok (.iload 5, 2) := by decide +kernel
theorem dX1_collapse_55 : decode cX1_collapse 55 = .ok (.iload_n 3, 1) := by decide +kernel
theorem dX1_collapse_56 : decode cX1_collapse 56 = .ok (.if_icmp .eq 7, 3) := by decide +kernel
theorem dX1_collapse_59 : decode cX1_collapse 59 = .ok (.iconst 1, 1) := by decide +kernel
theorem dX1_collapse_60 : decode cX1_collapse 60 = .ok (.goto 4, 3) := by decide +kernel
theorem dX1_collapse_63 : decode cX1_collapse 63 = .ok (.iconst 0, 1) := by decide +kernel
theorem dX1_collapse_64 : decode cX1_collapse 64 = .ok (.ireturn, 1) := by decide +kernel
theorem dX1_flow_0 : decode cX1_flow 0 = .ok (.aload_n 0, 1) := by decide +kernel
theorem dX1_flow_1 : decode cX1_flow 1 = .ok (.aload_n 0, 1) := by decide +kernel
theorem dX1_flow_2 : decode cX1_flow 2 = .ok (.iload_n 1, 1) := by decide +kernel
theorem dX1_flow_3 : decode cX1_flow 3 = .ok (.invokevirtual 194, 3) := by decide +kernel
theorem dX1_flow_6 : decode cX1_flow 6 = .ok (.aload_n 0, 1) := by decide +kernel
theorem dX1_flow_7 : decode cX1_flow 7 = .ok (.getfield 149, 3) := by decide +kernel
theorem dX1_flow_10 : decode cX1_flow 10 = .ok (.invokevirtual 197, 3) := by decide +kernel
theorem dX1_flow_13 : decode cX1_flow 13 = .ok (.ireturn, 1) := by decide +kernel
theorem dX1_dugAt_0 : decode cX1_dugAt 0 = .ok (.aload_n 0, 1) := by decide +kernel
theorem dX1_dugAt_1 : decode cX1_dugAt 1 = .ok (.iload_n 1, 1) := by decide +kernel
theorem dX1_dugAt_2 : decode cX1_dugAt 2 = .ok (.invokevirtual 90, 3) := by decide +kernel
theorem dX1_dugAt_5 : decode cX1_dugAt 5 = .ok (.astore_n 2, 1) := by decide +kernel
theorem dX1_dugAt_6 : decode cX1_dugAt 6 = .ok (.aload_n 2, 1) := by decide +kernel
theorem dX1_dugAt_7 : decode cX1_dugAt 7 = .ok (.invokevirtual 94, 3) := by decide +kernel
theorem dX1_dugAt_10 : decode cX1_dugAt 10 = .ok (.invokestatic 98, 3) := by decide +kernel
theorem dX1_dugAt_13 : decode cX1_dugAt 13 = .ok (.aload_n 2, 1) := by decide +kernel
theorem dX1_dugAt_14 : decode cX1_dugAt 14 = .ok (.areturn, 1) := by decide +kernel
theorem dX1_harm_0 : decode cX1_harm 0 = .ok (.aload_n 0, 1) := by decide +kernel
theorem dX1_harm_1 : decode cX1_harm 1 = .ok (.iload_n 1, 1) := by decide +kernel
theorem dX1_harm_2 : decode cX1_harm 2 = .ok (.invokevirtual 194, 3) := by decide +kernel
theorem dX1_harm_5 : decode cX1_harm 5 = .ok (.astore_n 2, 1) := by decide +kernel
theorem dX1_harm_6 : decode cX1_harm 6 = .ok (.aload_n 0, 1) := by decide +kernel
theorem dX1_harm_7 : decode cX1_harm 7 = .ok (.aload_n 2, 1) := by decide +kernel
theorem dX1_harm_8 : decode cX1_harm 8 = .ok (.aload_n 2, 1) := by decide +kernel
theorem dX1_harm_9 : decode cX1_harm 9 = .ok (.getfield 152, 3) := by decide +kernel
theorem dX1_harm_12 : decode cX1_harm 12 = .ok (.invokevirtual 197, 3) := by decide +kernel
theorem dX1_harm_15 : decode cX1_harm 15 = .ok (.aload_n 0, 1) := by decide +kernel
theorem dX1_harm_16 : decode cX1_harm 16 = .ok (.aload_n 2, 1) := by decide +kernel
theorem dX1_harm_17 : decode cX1_harm 17 = .ok (.aload_n 0, 1) := by decide +kernel
theorem dX1_harm_18 : decode cX1_harm 18 = .ok (.getfield 149, 3) := by decide +kernel
theorem dX1_harm_21 : decode cX1_harm 21 = .ok (.invokevirtual 197, 3) := by decide +kernel
theorem dX1_harm_24 : decode cX1_harm 24 = .ok (.isub, 1) := by decide +kernel
theorem dX1_harm_25 : decode cX1_harm 25 = .ok (.ireturn, 1) := by decide +kernel
theorem dX1_seep_0 : decode cX1_seep 0 = .ok (.aload_n 0, 1) := by decide +kernel
theorem dX1_seep_1 : decode cX1_seep 1 = .ok (.iload_n 1, 1) := by decide +kernel
theorem dX1_seep_2 : decode cX1_seep 2 = .ok (.invokevirtual 90, 3) := by decide +kernel
theorem dX1_seep_5 : decode cX1_seep 5 = .ok (.astore_n 3, 1) := by decide +kernel
theorem dX1_seep_6 : decode cX1_seep 6 = .ok (.iload_n 2, 1) := by decide +kernel
theorem dX1_seep_7 : decode cX1_seep 7 = .ok (.iconst 0, 1) := by decide +kernel
theorem dX1_seep_8 : decode cX1_seep 8 = .ok (.aload_n 3, 1) := by decide +kernel
theorem dX1_seep_9 : decode cX1_seep 9 = .ok (.getfield 122, 3) := by decide +kernel
theorem dX1_seep_12 : decode cX1_seep 12 = .ok (.iconst 1, 1) := by decide +kernel
theorem dX1_seep_13 : decode cX1_seep 13 = .ok (.isub, 1) := by decide +kernel
theorem dX1_seep_14 : decode cX1_seep 14 = .ok (.invokestatic 79, 3) := by decide +kernel
theorem dX1_seep_17 : decode cX1_seep 17 = .ok (.invokestatic 86, 3) := by decide +kernel
theorem dX1_seep_20 : decode cX1_seep 20 = .ok (.aload_n 3, 1) := by decide +kernel
theorem dX1_seep_21 : decode cX1_seep 21 = .ok (.invokevirtual 94, 3) := by decide +kernel
theorem dX1_seep_24 : decode cX1_seep 24 = .ok (.invokestatic 98, 3) := by decide +kernel
theorem dX1_seep_27 : decode cX1_seep 27 = .ok (.iload_n 2, 1) := by decide +kernel
theorem dX1_seep_28 : decode cX1_seep 28 = .ok (.aload_n 3, 1) := by decide +kernel
theorem dX1_seep_29 : decode cX1_seep 29 = .ok (.invokevirtual 186, 3) := by decide +kernel
theorem dX1_seep_32 : decode cX1_seep 32 = .ok (.if_icmp .ge 16, 3) := by decide +kernel
theorem dX1_seep_35 : decode cX1_seep 35 = .ok (.aload_n 0, 1) := by decide +kernel
theorem dX1_seep_36 : decode cX1_seep 36 = .ok (.aload_n 3, 1) := by decide +kernel
theorem dX1_seep_37 : decode cX1_seep 37 = .ok (.iload_n 2, 1) := by decide +kernel
theorem dX1_seep_38 : decode cX1_seep 38 = .ok (.aload_n 0, 1) := by decide +kernel
theorem dX1_seep_39 : decode cX1_seep 39 = .ok (.getfield 149, 3) := by decide +kernel
theorem dX1_seep_42 : decode cX1_seep 42 = .ok (.invokevirtual 190, 3) := by decide +kernel
theorem dX1_seep_45 : decode cX1_seep 45 = .ok (.goto 4, 3) := by decide +kernel
theorem dX1_seep_48 : decode cX1_seep 48 = .ok (.iconst 0, 1) := by decide +kernel
theorem dX1_seep_49 : decode cX1_seep 49 = .ok (.ireturn, 1) := by decide +kernel
theorem dX1_sell_0 : decode cX1_sell 0 = .ok (.aload_n 0, 1) := by decide +kernel
theorem dX1_sell_1 : decode cX1_sell 1 = .ok (.iload_n 1, 1) := by decide +kernel
theorem dX1_sell_2 : decode cX1_sell 2 = .ok (.invokevirtual 203, 3) := by decide +kernel
theorem dX1_sell_5 : decode cX1_sell 5 = .ok (.astore 5, 2) := by decide +kernel
theorem dX1_sell_7 : decode cX1_sell 7 = .ok (.aload 5, 2) := by decide +kernel
theorem dX1_sell_9 : decode cX1_sell 9 = .ok (.aload_n 0, 1) := by decide +kernel
theorem dX1_sell_10 : decode cX1_sell 10 = .ok (.getfield 207, 3) := by decide +kernel
theorem dX1_sell_13 : decode cX1_sell 13 = .ok (.invokevirtual 210, 3) := by decide +kernel
theorem dX1_sell_16 : decode cX1_sell 16 = .ok (.ifCond .ne 7, 3) := by decide +kernel
theorem dX1_sell_19 : decode cX1_sell 19 = .ok (.iconst 1, 1) := by decide +kernel
theorem dX1_sell_20 : decode cX1_sell 20 = .ok (.goto 4, 3) := by decide +kernel
theorem dX1_sell_23 : decode cX1_sell 23 = .ok (.iconst 0, 1) := by decide +kernel
theorem dX1_sell_24 : decode cX1_sell 24 = .ok (.invokestatic 98, 3) := by decide +kernel
theorem dX1_sell_27 : decode cX1_sell 27 = .ok (.iload_n 2, 1) := by decide +kernel
theorem dX1_sell_28 : decode cX1_sell 28 = .ok (.aload 5, 2) := by decide +kernel
theorem dX1_sell_30 : decode cX1_sell 30 = .ok (.getfield 213, 3) := by decide +kernel
theorem dX1_sell_33 : decode cX1_sell 33 = .ok (.if_icmp .lt 29, 3) := by decide +kernel
theorem dX1_sell_36 : decode cX1_sell 36 = .ok (.iload_n 2, 1) := by decide +kernel
theorem dX1_sell_37 : decode cX1_sell 37 = .ok (.iload_n 3, 1) := by decide +kernel
theorem dX1_sell_38 : decode cX1_sell 38 = .ok (.if_icmp .ge 24, 3) := by decide +kernel
theorem dX1_sell_41 : decode cX1_sell 41 = .ok (.iload_n 3, 1) := by decide +kernel
theorem dX1_sell_42 : decode cX1_sell 42 = .ok (.aload 5, 2) := by decide +kernel
theorem dX1_sell_44 : decode cX1_sell 44 = .ok (.getfield 216, 3) := by decide +kernel
theorem dX1_sell_47 : decode cX1_sell 47 = .ok (.if_icmp .gt 15, 3) := by decide +kernel
theorem dX1_sell_50 : decode cX1_sell 50 = .ok (.iload 4, 2) := by decide +kernel
theorem dX1_sell_52 : decode cX1_sell 52 = .ok (.invokestatic 145, 3) := by decide +kernel
theorem dX1_sell_55 : decode cX1_sell 55 = .ok (.ifCond .eq 7, 3) := by decide +kernel
theorem dX1_sell_58 : decode cX1_sell 58 = .ok (.iconst 1, 1) := by decide +kernel
theorem dX1_sell_59 : decode cX1_sell 59 = .ok (.goto 4, 3) := by decide +kernel
theorem dX1_sell_62 : decode cX1_sell 62 = .ok (.iconst 0, 1) := by decide +kernel
theorem dX1_sell_63 : decode cX1_sell 63 = .ok (.invokestatic 115, 3) := by decide +kernel
theorem dX1_sell_66 : decode cX1_sell 66 = .ok (.iload_n 2, 1) := by decide +kernel
theorem dX1_sell_67 : decode cX1_sell 67 = .ok (.aload 5, 2) := by decide +kernel
theorem dX1_sell_69 : decode cX1_sell 69 = .ok (.getfield 213, 3) := by decide +kernel
theorem dX1_sell_72 : decode cX1_sell 72 = .ok (.if_icmp .le 7, 3) := by decide +kernel
theorem dX1_sell_75 : decode cX1_sell 75 = .ok (.iconst 1, 1) := by decide +kernel
theorem dX1_sell_76 : decode cX1_sell 76 = .ok (.goto 4, 3) := by decide +kernel
theorem dX1_sell_79 : decode cX1_sell 79 = .ok (.iconst 0, 1) := by decide +kernel
theorem dX1_sell_80 : decode cX1_sell 80 = .ok (.iload_n 3, 1) := by decide +kernel
theorem dX1_sell_81 : decode cX1_sell 81 = .ok (.aload 5, 2) := by decide +kernel
theorem dX1_sell_83 : decode cX1_sell 83 = .ok (.getfield 216, 3) := by decide +kernel
theorem dX1_sell_86 : decode cX1_sell 86 = .ok (.if_icmp .ge 7, 3) := by decide +kernel
theorem dX1_sell_89 : decode cX1_sell 89 = .ok (.iconst 1, 1) := by decide +kernel
theorem dX1_sell_90 : decode cX1_sell 90 = .ok (.goto 4, 3) := by decide +kernel
theorem dX1_sell_93 : decode cX1_sell 93 = .ok (.iconst 0, 1) := by decide +kernel
theorem dX1_sell_94 : decode cX1_sell 94 = .ok (.iadd, 1) := by decide +kernel
theorem dX1_sell_95 : decode cX1_sell 95 = .ok (.istore 6, 2) := by decide +kernel
theorem dX1_sell_97 : decode cX1_sell 97 = .ok (.aload_n 0, 1) := by decide +kernel
theorem dX1_sell_98 : decode cX1_sell 98 = .ok (.getfield 101, 3) := by decide +kernel
theorem dX1_sell_101 : decode cX1_sell 101 = .ok (.iload 6, 2) := by decide +kernel
theorem dX1_sell_103 : decode cX1_sell 103 = .ok (.iadd, 1) := by decide +kernel
theorem dX1_sell_104 : decode cX1_sell 104 = .ok (.bipush 60, 2) := by decide +kernel
theorem dX1_sell_106 : decode cX1_sell 106 = .ok (.if_icmp .gt 7, 3) := by decide +kernel
theorem dX1_sell_109 : decode cX1_sell 109 = .ok (.iconst 1, 1) := by decide +kernel
theorem dX1_sell_110 : decode cX1_sell 110 = .ok (.goto 4, 3) := by decide +kernel
theorem dX1_sell_113 : decode cX1_sell 113 = .ok (.iconst 0, 1) := by decide +kernel
theorem dX1_sell_114 : decode cX1_sell 114 = .ok (.invokestatic 118, 3) := by decide +kernel
theorem dX1_sell_117 : decode cX1_sell 117 = .ok (.aload 5, 2) := by decide +kernel
theorem dX1_sell_119 : decode cX1_sell 119 = .ok (.getfield 219, 3) := by decide +kernel
theorem dX1_sell_122 : decode cX1_sell 122 = .ok (.istore 7, 2) := by decide +kernel
theorem dX1_sell_124 : decode cX1_sell 124 = .ok (.iload_n 2, 1) := by decide +kernel
theorem dX1_sell_125 : decode cX1_sell 125 = .ok (.aload 5, 2) := by decide +kernel
theorem dX1_sell_127 : decode cX1_sell 127 = .ok (.getfield 213, 3) := by decide +kernel
theorem dX1_sell_130 : decode cX1_sell 130 = .ok (.if_icmp .le 25, 3) := by decide +kernel
theorem dX1_sell_133 : decode cX1_sell 133 = .ok (.aload_n 0, 1) := by decide +kernel
theorem dX1_sell_134 : decode cX1_sell 134 = .ok (.aload 5, 2) := by decide +kernel
theorem dX1_sell_136 : decode cX1_sell 136 = .ok (.getfield 222, 3) := by decide +kernel
theorem dX1_sell_139 : decode cX1_sell 139 = .ok (.aload 5, 2) := by decide +kernel
theorem dX1_sell_141 : decode cX1_sell 141 = .ok (.getfield 226, 3) := by decide +kernel
theorem dX1_sell_144 : decode cX1_sell 144 = .ok (.aload 5, 2) := by decide +kernel
theorem dX1_sell_146 : decode cX1_sell 146 = .ok (.getfield 213, 3) := by decide +kernel
theorem dX1_sell_149 : decode cX1_sell 149 = .ok (.iload_n 2, 1) := by decide +kernel
theorem dX1_sell_150 : decode cX1_sell 150 = .ok (.iload 7, 2) := by decide +kernel
theorem dX1_sell_152 : decode cX1_sell 152 = .ok (.invokevirtual 162, 3) := by decide +kernel
theorem dX1_sell_155 : decode cX1_sell 155 = .ok (.iload_n 3, 1) := by decide +kernel
theorem dX1_sell_156 : decode cX1_sell 156 = .ok (.aload 5, 2) := by decide +kernel
theorem dX1_sell_158 : decode cX1_sell 158 = .ok (.getfield 216, 3) := by decide +kernel
theorem dX1_sell_161 : decode cX1_sell 161 = .ok (.if_icmp .ge 25, 3) := by decide +kernel
theorem dX1_sell_164 : decode cX1_sell 164 = .ok (.aload_n 0, 1) := by decide +kernel
theorem dX1_sell_165 : decode cX1_sell 165 = .ok (.aload 5, 2) := by decide +kernel
theorem dX1_sell_167 : decode cX1_sell 167 = .ok (.getfield 222, 3) := by decide +kernel
theorem dX1_sell_170 : decode cX1_sell 170 = .ok (.aload 5, 2) := by decide +kernel
theorem dX1_sell_172 : decode cX1_sell 172 = .ok (.getfield 226, 3) := by decide +kernel
theorem dX1_sell_175 : decode cX1_sell 175 = .ok (.iload_n 3, 1) := by decide +kernel
theorem dX1_sell_176 : decode cX1_sell 176 = .ok (.aload 5, 2) := by decide +kernel
theorem dX1_sell_178 : decode cX1_sell 178 = .ok (.getfield 216, 3) := by decide +kernel
theorem dX1_sell_181 : decode cX1_sell 181 = .ok (.iload 7, 2) := by decide +kernel
theorem dX1_sell_183 : decode cX1_sell 183 = .ok (.invokevirtual 162, 3) := by decide +kernel
theorem dX1_sell_186 : decode cX1_sell 186 = .ok (.aload 5, 2) := by decide +kernel
theorem dX1_sell_188 : decode cX1_sell 188 = .ok (.iload_n 2, 1) := by decide +kernel
theorem dX1_sell_189 : decode cX1_sell 189 = .ok (.iload_n 3, 1) := by decide +kernel
theorem dX1_sell_190 : decode cX1_sell 190 = .ok (.iload 4, 2) := by decide +kernel
theorem dX1_sell_192 : decode cX1_sell 192 = .ok (.invokevirtual 229, 3) := by decide +kernel
theorem dX1_sell_195 : decode cX1_sell 195 = .ok (.return_, 1) := by decide +kernel
theorem dX1_shareAt_0 : decode cX1_shareAt 0 = .ok (.iload_n 1, 1) := by decide +kernel
theorem dX1_shareAt_1 : decode cX1_shareAt 1 = .ok (.iconst 0, 1) := by decide +kernel
theorem dX1_shareAt_2 : decode cX1_shareAt 2 = .ok (.aload_n 0, 1) := by decide +kernel
theorem dX1_shareAt_3 : decode cX1_shareAt 3 = .ok (.getfield 101, 3) := by decide +kernel
theorem dX1_shareAt_6 : decode cX1_shareAt 6 = .ok (.iconst 1, 1) := by decide +kernel
theorem dX1_shareAt_7 : decode cX1_shareAt 7 = .ok (.isub, 1) := by decide +kernel
theorem dX1_shareAt_8 : decode cX1_shareAt 8 = .ok (.invokestatic 79, 3) := by decide +kernel
theorem dX1_shareAt_11 : decode cX1_shareAt 11 = .ok (.invokestatic 86, 3) := by decide +kernel
theorem dX1_shareAt_14 : decode cX1_shareAt 14 = .ok (.aload_n 0, 1) := by decide +kernel
theorem dX1_shareAt_15 : decode cX1_shareAt 15 = .ok (.getfield 24, 3) := by decide +kernel
theorem dX1_shareAt_18 : decode cX1_shareAt 18 = .ok (.iload_n 1, 1) := by decide +kernel
theorem dX1_shareAt_19 : decode cX1_shareAt 19 = .ok (.aaload, 1) := by decide +kernel
theorem dX1_shareAt_20 : decode cX1_shareAt 20 = .ok (.areturn, 1) := by decide +kernel
theorem dX1_heirs_0 : decode cX1_heirs 0 = .ok (.aload_n 0, 1) := by decide +kernel
theorem dX1_heirs_1 : decode cX1_heirs 1 = .ok (.iload_n 1, 1) := by decide +kernel
theorem dX1_heirs_2 : decode cX1_heirs 2 = .ok (.invokevirtual 203, 3) := by decide +kernel
theorem dX1_heirs_5 : decode cX1_heirs 5 = .ok (.astore 11, 2) := by decide +kernel
theorem dX1_heirs_7 : decode cX1_heirs 7 = .ok (.aload 11, 2) := by decide +kernel
theorem dX1_heirs_9 : decode cX1_heirs 9 = .ok (.aload_n 0, 1) := by decide +kernel
theorem dX1_heirs_10 : decode cX1_heirs 10 = .ok (.getfield 207, 3) := by decide +kernel
theorem dX1_heirs_13 : decode cX1_heirs 13 = .ok (.invokevirtual 210, 3) := by decide +kernel
theorem dX1_heirs_16 : decode cX1_heirs 16 = .ok (.ifCond .ne 7, 3) := by decide +kernel
theorem dX1_heirs_19 : decode cX1_heirs 19 = .ok (.iconst 1, 1) := by decide +kernel
theorem dX1_heirs_20 : decode cX1_heirs 20 = .ok (.goto 4, 3) := by decide +kernel
theorem dX1_heirs_23 : decode cX1_heirs 23 = .ok (.iconst 0, 1) := by decide +kernel
theorem dX1_heirs_24 : decode cX1_heirs 24 = .ok (.invokestatic 98, 3) := by decide +kernel
theorem dX1_heirs_27 : decode cX1_heirs 27 = .ok (.iload_n 2, 1) := by decide +kernel
theorem dX1_heirs_28 : decode cX1_heirs 28 = .ok (.iconst 2, 1) := by decide +kernel
theorem dX1_heirs_29 : decode cX1_heirs 29 = .ok (.iconst 4, 1) := by decide +kernel
theorem dX1_heirs_30 : decode cX1_heirs 30 = .ok (.invokestatic 79, 3) := by decide +kernel
theorem dX1_heirs_33 : decode cX1_heirs 33 = .ok (.invokestatic 115, 3) := by decide +kernel
theorem dX1_heirs_36 : decode cX1_heirs 36 = .ok (.iconst 4, 1) := by decide +kernel
theorem dX1_heirs_37 : decode cX1_heirs 37 = .ok (.newarray .int, 2) := by decide +kernel
theorem dX1_heirs_39 : decode cX1_heirs 39 = .ok (.dup, 1) := by decide +kernel
theorem dX1_heirs_40 : decode cX1_heirs 40 = .ok (.iconst 0, 1) := by decide +kernel
theorem dX1_heirs_41 : decode cX1_heirs 41 = .ok (.iload_n 3, 1) := by decide +kernel
theorem dX1_heirs_42 : decode cX1_heirs 42 = .ok (.iastore, 1) := by decide +kernel
theorem dX1_heirs_43 : decode cX1_heirs 43 = .ok (.dup, 1) := by decide +kernel
theorem dX1_heirs_44 : decode cX1_heirs 44 = .ok (.iconst 1, 1) := by decide +kernel
theorem dX1_heirs_45 : decode cX1_heirs 45 = .ok (.iload 5, 2) := by decide +kernel
theorem dX1_heirs_47 : decode cX1_heirs 47 = .ok (.iastore, 1) := by decide +kernel
theorem dX1_heirs_48 : decode cX1_heirs 48 = .ok (.dup, 1) := by decide +kernel
theorem dX1_heirs_49 : decode cX1_heirs 49 = .ok (.iconst 2, 1) := by decide +kernel
theorem dX1_heirs_50 : decode cX1_heirs 50 = .ok (.iload 7, 2) := by decide +kernel
theorem dX1_heirs_52 : decode cX1_heirs 52 = .ok (.iastore, 1) := by decide +kernel
theorem dX1_heirs_53 : decode cX1_heirs 53 = .ok (.dup, 1) := by decide +kernel
theorem dX1_heirs_54 : decode cX1_heirs 54 = .ok (.iconst 3, 1) := by decide +kernel
theorem dX1_heirs_55 : decode cX1_heirs 55 = .ok (.iload 9, 2) := by decide +kernel
theorem dX1_heirs_57 : decode cX1_heirs 57 = .ok (.iastore, 1) := by decide +kernel
theorem dX1_heirs_58 : decode cX1_heirs 58 = .ok (.astore 12, 2) := by decide +kernel
theorem dX1_heirs_60 : decode cX1_heirs 60 = .ok (.iconst 4, 1) := by decide +kernel
theorem dX1_heirs_61 : decode cX1_heirs 61 = .ok (.newarray .int, 2) := by decide +kernel
theorem dX1_heirs_63 : decode cX1_heirs 63 = .ok (.dup, 1) := by decide +kernel
theorem dX1_heirs_64 : decode cX1_heirs 64 = .ok (.iconst 0, 1) := by decide +kernel
theorem dX1_heirs_65 : decode cX1_heirs 65 = .ok (.iload 4, 2) := by decide +kernel
theorem dX1_heirs_67 : decode cX1_heirs 67 = .ok (.iastore, 1) := by decide +kernel
theorem dX1_heirs_68 : decode cX1_heirs 68 = .ok (.dup, 1) := by decide +kernel
theorem dX1_heirs_69 : decode cX1_heirs 69 = .ok (.iconst 1, 1) := by decide +kernel
theorem dX1_heirs_70 : decode cX1_heirs 70 = .ok (.iload 6, 2) := by decide +kernel
theorem dX1_heirs_72 : decode cX1_heirs 72 = .ok (.iastore, 1) := by decide +kernel
theorem dX1_heirs_73 : decode cX1_heirs 73 = .ok (.dup, 1) := by decide +kernel
theorem dX1_heirs_74 : decode cX1_heirs 74 = .ok (.iconst 2, 1) := by decide +kernel
theorem dX1_heirs_75 : decode cX1_heirs 75 = .ok (.iload 8, 2) := by decide +kernel
theorem dX1_heirs_77 : decode cX1_heirs 77 = .ok (.iastore, 1) := by decide +kernel
theorem dX1_heirs_78 : decode cX1_heirs 78 = .ok (.dup, 1) := by decide +kernel
theorem dX1_heirs_79 : decode cX1_heirs 79 = .ok (.iconst 3, 1) := by decide +kernel
theorem dX1_heirs_80 : decode cX1_heirs 80 = .ok (.iload 10, 2) := by decide +kernel
theorem dX1_heirs_82 : decode cX1_heirs 82 = .ok (.iastore, 1) := by decide +kernel
theorem dX1_heirs_83 : decode cX1_heirs 83 = .ok (.astore 13, 2) := by decide +kernel
theorem dX1_heirs_85 : decode cX1_heirs 85 = .ok (.iconst 0, 1) := by decide +kernel
theorem dX1_heirs_86 : decode cX1_heirs 86 = .ok (.istore 14, 2) := by decide +kernel
theorem dX1_heirs_88 : decode cX1_heirs 88 = .ok (.iconst 0, 1) := by decide +kernel
theorem dX1_heirs_89 : decode cX1_heirs 89 = .ok (.istore 15, 2) := by decide +kernel
theorem dX1_heirs_91 : decode cX1_heirs 91 = .ok (.iload 15, 2) := by decide +kernel
theorem dX1_heirs_93 : decode cX1_heirs 93 = .ok (.iload_n 2, 1) := by decide +kernel
theorem dX1_heirs_94 : decode cX1_heirs 94 = .ok (.if_icmp .ge 52, 3) := by decide +kernel
theorem dX1_heirs_97 : decode cX1_heirs 97 = .ok (.aload 12, 2) := by decide +kernel
theorem dX1_heirs_99 : decode cX1_heirs 99 = .ok (.iload 15, 2) := by decide +kernel
theorem dX1_heirs_101 : decode cX1_heirs 101 = .ok (.iaload, 1) := by decide +kernel
theorem dX1_heirs_102 : decode cX1_heirs 102 = .ok (.invokestatic 145, 3) := by decide +kernel
theorem dX1_heirs_105 : decode cX1_heirs 105 = .ok (.ifCond .eq 21, 3) := by decide +kernel
theorem dX1_heirs_108 : decode cX1_heirs 108 = .ok (.aload 13, 2) := by decide +kernel
theorem dX1_heirs_110 : decode cX1_heirs 110 = .ok (.iload 15, 2) := by decide +kernel
theorem dX1_heirs_112 : decode cX1_heirs 112 = .ok (.iaload, 1) := by decide +kernel
theorem dX1_heirs_113 : decode cX1_heirs 113 = .ok (.iconst 1, 1) := by decide +kernel
theorem dX1_heirs_114 : decode cX1_heirs 114 = .ok (.bipush 100, 2) := by decide +kernel
theorem dX1_heirs_116 : decode cX1_heirs 116 = .ok (.invokestatic 79, 3) := by decide +kernel
theorem dX1_heirs_119 : decode cX1_heirs 119 = .ok (.ifCond .eq 7, 3) := by decide +kernel
theorem dX1_heirs_122 : decode cX1_heirs 122 = .ok (.iconst 1, 1) := by decide +kernel
theorem dX1_heirs_123 : decode cX1_heirs 123 = .ok (.goto 4, 3) := by decide +kernel
theorem dX1_heirs_126 : decode cX1_heirs 126 = .ok (.iconst 0, 1) := by decide +kernel
theorem dX1_heirs_127 : decode cX1_heirs 127 = .ok (.invokestatic 115, 3) := by decide +kernel
theorem dX1_heirs_130 : decode cX1_heirs 130 = .ok (.iload 14, 2) := by decide +kernel
theorem dX1_heirs_132 : decode cX1_heirs 132 = .ok (.aload 13, 2) := by decide +kernel
theorem dX1_heirs_134 : decode cX1_heirs 134 = .ok (.iload 15, 2) := by decide +kernel
theorem dX1_heirs_136 : decode cX1_heirs 136 = .ok (.iaload, 1) := by decide +kernel
theorem dX1_heirs_137 : decode cX1_heirs 137 = .ok (.iadd, 1) := by decide +kernel
theorem dX1_heirs_138 : decode cX1_heirs 138 = .ok (.istore 14, 2) := by decide +kernel
theorem dX1_heirs_140 : decode cX1_heirs 140 = .ok (.iinc 15 1, 3) := by decide +kernel
theorem dX1_heirs_143 : decode cX1_heirs 143 = .ok (.goto (-52), 3) := by decide +kernel
theorem dX1_heirs_146 : decode cX1_heirs 146 = .ok (.aload 11, 2) := by decide +kernel
theorem dX1_heirs_148 : decode cX1_heirs 148 = .ok (.getfield 216, 3) := by decide +kernel
theorem dX1_heirs_151 : decode cX1_heirs 151 = .ok (.aload 11, 2) := by decide +kernel
theorem dX1_heirs_153 : decode cX1_heirs 153 = .ok (.getfield 213, 3) := by decide +kernel
theorem dX1_heirs_156 : decode cX1_heirs 156 = .ok (.isub, 1) := by decide +kernel
theorem dX1_heirs_157 : decode cX1_heirs 157 = .ok (.istore 15, 2) := by decide +kernel
theorem dX1_heirs_159 : decode cX1_heirs 159 = .ok (.iload 15, 2) := by decide +kernel
theorem dX1_heirs_161 : decode cX1_heirs 161 = .ok (.istore 16, 2) := by decide +kernel
theorem dX1_heirs_163 : decode cX1_heirs 163 = .ok (.iconst 0, 1) := by decide +kernel
theorem dX1_heirs_164 : decode cX1_heirs 164 = .ok (.istore 17, 2) := by decide +kernel
theorem dX1_heirs_166 : decode cX1_heirs 166 = .ok (.iload 17, 2) := by decide +kernel
theorem dX1_heirs_168 : decode cX1_heirs 168 = .ok (.iload_n 2, 1) := by decide +kernel
theorem dX1_heirs_169 : decode cX1_heirs 169 = .ok (.if_icmp .ge 39, 3) := by decide +kernel
theorem dX1_heirs_172 : decode cX1_heirs 172 = .ok (.aload_n 0, 1) := by decide +kernel
theorem dX1_heirs_173 : decode cX1_heirs 173 = .ok (.getfield 47, 3) := by decide +kernel
theorem dX1_heirs_176 : decode cX1_heirs 176 = .ok (.iload 17, 2) := by decide +kernel
theorem dX1_heirs_178 : decode cX1_heirs 178 = .ok (.iload 15, 2) := by decide +kernel
theorem dX1_heirs_180 : decode cX1_heirs 180 = .ok (.aload 13, 2) := by decide +kernel
theorem dX1_heirs_182 : decode cX1_heirs 182 = .ok (.iload 17, 2) := by decide +kernel
theorem dX1_heirs_184 : decode cX1_heirs 184 = .ok (.iaload, 1) := by decide +kernel
theorem dX1_heirs_185 : decode cX1_heirs 185 = .ok (.imul, 1) := by decide +kernel
theorem dX1_heirs_186 : decode cX1_heirs 186 = .ok (.iload 14, 2) := by decide +kernel
theorem dX1_heirs_188 : decode cX1_heirs 188 = .ok (.idiv, 1) := by decide +kernel
theorem dX1_heirs_189 : decode cX1_heirs 189 = .ok (.iastore, 1) := by decide +kernel
theorem dX1_heirs_190 : decode cX1_heirs 190 = .ok (.iload 16, 2) := by decide +kernel
theorem dX1_heirs_192 : decode cX1_heirs 192 = .ok (.aload_n 0, 1) := by decide +kernel
theorem dX1_heirs_193 : decode cX1_heirs 193 = .ok (.getfield 47, 3) := by decide +kernel
theorem dX1_heirs_196 : decode cX1_heirs 196 = .ok (.iload 17, 2) := by decide +kernel
theorem dX1_heirs_198 : decode cX1_heirs 198 = .ok (.iaload, 1) := by decide +kernel
theorem dX1_heirs_199 : decode cX1_heirs 199 = .ok (.isub, 1) := by decide +kernel
theorem dX1_heirs_200 : decode cX1_heirs 200 = .ok (.istore 16, 2) := by decide +kernel
theorem dX1_heirs_202 : decode cX1_heirs 202 = .ok (.iinc 17 1, 3) := by decide +kernel
theorem dX1_heirs_205 : decode cX1_heirs 205 = .ok (.goto (-39), 3) := by decide +kernel
theorem dX1_heirs_208 : decode cX1_heirs 208 = .ok (.iconst 0, 1) := by decide +kernel
theorem dX1_heirs_209 : decode cX1_heirs 209 = .ok (.istore 17, 2) := by decide +kernel
theorem dX1_heirs_211 : decode cX1_heirs 211 = .ok (.iconst 0, 1) := by decide +kernel
theorem dX1_heirs_212 : decode cX1_heirs 212 = .ok (.istore 18, 2) := by decide +kernel
theorem dX1_heirs_214 : decode cX1_heirs 214 = .ok (.iload 18, 2) := by decide +kernel
theorem dX1_heirs_216 : decode cX1_heirs 216 = .ok (.iload_n 2, 1) := by decide +kernel
theorem dX1_heirs_217 : decode cX1_heirs 217 = .ok (.if_icmp .ge 53, 3) := by decide +kernel
theorem dX1_heirs_220 : decode cX1_heirs 220 = .ok (.aload_n 0, 1) := by decide +kernel
theorem dX1_heirs_221 : decode cX1_heirs 221 = .ok (.getfield 47, 3) := by decide +kernel
theorem dX1_heirs_224 : decode cX1_heirs 224 = .ok (.iload 18, 2) := by decide +kernel
theorem dX1_heirs_226 : decode cX1_heirs 226 = .ok (.dup2, 1) := by decide +kernel
theorem dX1_heirs_227 : decode cX1_heirs 227 = .ok (.iaload, 1) := by decide +kernel
theorem dX1_heirs_228 : decode cX1_heirs 228 = .ok (.iload 18, 2) := by decide +kernel
theorem dX1_heirs_230 : decode cX1_heirs 230 = .ok (.iload 16, 2) := by decide +kernel
theorem dX1_heirs_232 : decode cX1_heirs 232 = .ok (.if_icmp .ge 7, 3) := by decide +kernel
theorem dX1_heirs_235 : decode cX1_heirs 235 = .ok (.iconst 1, 1) := by decide +kernel
theorem dX1_heirs_236 : decode cX1_heirs 236 = .ok (.goto 4, 3) := by decide +kernel
theorem dX1_heirs_239 : decode cX1_heirs 239 = .ok (.iconst 0, 1) := by decide +kernel
theorem dX1_heirs_240 : decode cX1_heirs 240 = .ok (.iadd, 1) := by decide +kernel
theorem dX1_heirs_241 : decode cX1_heirs 241 = .ok (.iastore, 1) := by decide +kernel
theorem dX1_heirs_242 : decode cX1_heirs 242 = .ok (.aload_n 0, 1) := by decide +kernel
theorem dX1_heirs_243 : decode cX1_heirs 243 = .ok (.getfield 47, 3) := by decide +kernel
theorem dX1_heirs_246 : decode cX1_heirs 246 = .ok (.iload 18, 2) := by decide +kernel
theorem dX1_heirs_248 : decode cX1_heirs 248 = .ok (.iaload, 1) := by decide +kernel
theorem dX1_heirs_249 : decode cX1_heirs 249 = .ok (.ifCond .le 15, 3) := by decide +kernel
theorem dX1_heirs_252 : decode cX1_heirs 252 = .ok (.aload_n 0, 1) := by decide +kernel
theorem dX1_heirs_253 : decode cX1_heirs 253 = .ok (.getfield 50, 3) := by decide +kernel
theorem dX1_heirs_256 : decode cX1_heirs 256 = .ok (.iload 17, 2) := by decide +kernel
theorem dX1_heirs_258 : decode cX1_heirs 258 = .ok (.iload 18, 2) := by decide +kernel
theorem dX1_heirs_260 : decode cX1_heirs 260 = .ok (.iastore, 1) := by decide +kernel
theorem dX1_heirs_261 : decode cX1_heirs 261 = .ok (.iinc 17 1, 3) := by decide +kernel
theorem dX1_heirs_264 : decode cX1_heirs 264 = .ok (.iinc 18 1, 3) := by decide +kernel
theorem dX1_heirs_267 : decode cX1_heirs 267 = .ok (.goto (-53), 3) := by decide +kernel
theorem dX1_heirs_270 : decode cX1_heirs 270 = .ok (.aload_n 0, 1) := by decide +kernel
theorem dX1_heirs_271 : decode cX1_heirs 271 = .ok (.getfield 101, 3) := by decide +kernel
theorem dX1_heirs_274 : decode cX1_heirs 274 = .ok (.iload 17, 2) := by decide +kernel
theorem dX1_heirs_276 : decode cX1_heirs 276 = .ok (.iadd, 1) := by decide +kernel
theorem dX1_heirs_277 : decode cX1_heirs 277 = .ok (.iconst 1, 1) := by decide +kernel
theorem dX1_heirs_278 : decode cX1_heirs 278 = .ok (.isub, 1) := by decide +kernel
theorem dX1_heirs_279 : decode cX1_heirs 279 = .ok (.bipush 60, 2) := by decide +kernel
theorem dX1_heirs_281 : decode cX1_heirs 281 = .ok (.if_icmp .gt 7, 3) := by decide +kernel
theorem dX1_heirs_284 : decode cX1_heirs 284 = .ok (.iconst 1, 1) := by decide +kernel
theorem dX1_heirs_285 : decode cX1_heirs 285 = .ok (.goto 4, 3) := by decide +kernel
theorem dX1_heirs_288 : decode cX1_heirs 288 = .ok (.iconst 0, 1) := by decide +kernel
theorem dX1_heirs_289 : decode cX1_heirs 289 = .ok (.invokestatic 118, 3) := by decide +kernel
theorem dX1_heirs_292 : decode cX1_heirs 292 = .ok (.aload 11, 2) := by decide +kernel
theorem dX1_heirs_294 : decode cX1_heirs 294 = .ok (.getfield 213, 3) := by decide +kernel
theorem dX1_heirs_297 : decode cX1_heirs 297 = .ok (.istore 18, 2) := by decide +kernel
theorem dX1_heirs_299 : decode cX1_heirs 299 = .ok (.iconst 0, 1) := by decide +kernel
theorem dX1_heirs_300 : decode cX1_heirs 300 = .ok (.istore 19, 2) := by decide +kernel
theorem dX1_heirs_302 : decode cX1_heirs 302 = .ok (.iload 19, 2) := by decide +kernel
theorem dX1_heirs_304 : decode cX1_heirs 304 = .ok (.iload 17, 2) := by decide +kernel
theorem dX1_heirs_306 : decode cX1_heirs 306 = .ok (.if_icmp .ge 91, 3) := by decide +kernel
theorem dX1_heirs_309 : decode cX1_heirs 309 = .ok (.aload_n 0, 1) := by decide +kernel
theorem dX1_heirs_310 : decode cX1_heirs 310 = .ok (.getfield 50, 3) := by decide +kernel
theorem dX1_heirs_313 : decode cX1_heirs 313 = .ok (.iload 19, 2) := by decide +kernel
theorem dX1_heirs_315 : decode cX1_heirs 315 = .ok (.iaload, 1) := by decide +kernel
theorem dX1_heirs_316 : decode cX1_heirs 316 = .ok (.istore 20, 2) := by decide +kernel
theorem dX1_heirs_318 : decode cX1_heirs 318 = .ok (.iload 19, 2) := by decide +kernel
theorem dX1_heirs_320 : decode cX1_heirs 320 = .ok (.ifCond .ne 28, 3) := by decide +kernel
theorem dX1_heirs_323 : decode cX1_heirs 323 = .ok (.aload 11, 2) := by decide +kernel
theorem dX1_heirs_325 : decode cX1_heirs 325 = .ok (.iload 18, 2) := by decide +kernel
theorem dX1_heirs_327 : decode cX1_heirs 327 = .ok (.iload 18, 2) := by decide +kernel
theorem dX1_heirs_329 : decode cX1_heirs 329 = .ok (.aload_n 0, 1) := by decide +kernel
theorem dX1_heirs_330 : decode cX1_heirs 330 = .ok (.getfield 47, 3) := by decide +kernel
theorem dX1_heirs_333 : decode cX1_heirs 333 = .ok (.iload 20, 2) := by decide +kernel
theorem dX1_heirs_335 : decode cX1_heirs 335 = .ok (.iaload, 1) := by decide +kernel
theorem dX1_heirs_336 : decode cX1_heirs 336 = .ok (.iadd, 1) := by decide +kernel
theorem dX1_heirs_337 : decode cX1_heirs 337 = .ok (.aload 12, 2) := by decide +kernel
theorem dX1_heirs_339 : decode cX1_heirs 339 = .ok (.iload 20, 2) := by decide +kernel
theorem dX1_heirs_341 : decode cX1_heirs 341 = .ok (.iaload, 1) := by decide +kernel
theorem dX1_heirs_342 : decode cX1_heirs 342 = .ok (.invokevirtual 229, 3) := by decide +kernel
theorem dX1_heirs_345 : decode cX1_heirs 345 = .ok (.goto 34, 3) := by decide +kernel
theorem dX1_heirs_348 : decode cX1_heirs 348 = .ok (.aload_n 0, 1) := by decide +kernel
theorem dX1_heirs_349 : decode cX1_heirs 349 = .ok (.aload 11, 2) := by decide +kernel
theorem dX1_heirs_351 : decode cX1_heirs 351 = .ok (.getfield 222, 3) := by decide +kernel
theorem dX1_heirs_354 : decode cX1_heirs 354 = .ok (.aload 11, 2) := by decide +kernel
theorem dX1_heirs_356 : decode cX1_heirs 356 = .ok (.getfield 226, 3) := by decide +kernel
theorem dX1_heirs_359 : decode cX1_heirs 359 = .ok (.iload 18, 2) := by decide +kernel
theorem dX1_heirs_361 : decode cX1_heirs 361 = .ok (.iload 18, 2) := by decide +kernel
theorem dX1_heirs_363 : decode cX1_heirs 363 = .ok (.aload_n 0, 1) := by decide +kernel
theorem dX1_heirs_364 : decode cX1_heirs 364 = .ok (.getfield 47, 3) := by decide +kernel
theorem dX1_heirs_367 : decode cX1_heirs 367 = .ok (.iload 20, 2) := by decide +kernel
theorem dX1_heirs_369 : decode cX1_heirs 369 = .ok (.iaload, 1) := by decide +kernel
theorem dX1_heirs_370 : decode cX1_heirs 370 = .ok (.iadd, 1) := by decide +kernel
theorem dX1_heirs_371 : decode cX1_heirs 371 = .ok (.aload 12, 2) := by decide +kernel
theorem dX1_heirs_373 : decode cX1_heirs 373 = .ok (.iload 20, 2) := by decide +kernel
theorem dX1_heirs_375 : decode cX1_heirs 375 = .ok (.iaload, 1) := by decide +kernel
theorem dX1_heirs_376 : decode cX1_heirs 376 = .ok (.invokevirtual 162, 3) := by decide +kernel
theorem dX1_heirs_379 : decode cX1_heirs 379 = .ok (.iload 18, 2) := by decide +kernel
theorem dX1_heirs_381 : decode cX1_heirs 381 = .ok (.aload_n 0, 1) := by decide +kernel
theorem dX1_heirs_382 : decode cX1_heirs 382 = .ok (.getfield 47, 3) := by decide +kernel
theorem dX1_heirs_385 : decode cX1_heirs 385 = .ok (.iload 20, 2) := by decide +kernel
theorem dX1_heirs_387 : decode cX1_heirs 387 = .ok (.iaload, 1) := by decide +kernel
theorem dX1_heirs_388 : decode cX1_heirs 388 = .ok (.iadd, 1) := by decide +kernel
theorem dX1_heirs_389 : decode cX1_heirs 389 = .ok (.istore 18, 2) := by decide +kernel
theorem dX1_heirs_391 : decode cX1_heirs 391 = .ok (.iinc 19 1, 3) := by decide +kernel
theorem dX1_heirs_394 : decode cX1_heirs 394 = .ok (.goto (-92), 3) := by decide +kernel
theorem dX1_heirs_397 : decode cX1_heirs 397 = .ok (.iload 17, 2) := by decide +kernel
theorem dX1_heirs_399 : decode cX1_heirs 399 = .ok (.ireturn, 1) := by decide +kernel
theorem dX1_let_0 : decode cX1_let 0 = .ok (.aload_n 0, 1) := by decide +kernel
theorem dX1_let_1 : decode cX1_let 1 = .ok (.iload_n 1, 1) := by decide +kernel
theorem dX1_let_2 : decode cX1_let 2 = .ok (.invokevirtual 203, 3) := by decide +kernel
theorem dX1_let_5 : decode cX1_let 5 = .ok (.astore 5, 2) := by decide +kernel
theorem dX1_let_7 : decode cX1_let 7 = .ok (.aload 5, 2) := by decide +kernel
theorem dX1_let_9 : decode cX1_let 9 = .ok (.aload_n 0, 1) := by decide +kernel
theorem dX1_let_10 : decode cX1_let 10 = .ok (.getfield 207, 3) := by decide +kernel
theorem dX1_let_13 : decode cX1_let 13 = .ok (.invokevirtual 210, 3) := by decide +kernel
theorem dX1_let_16 : decode cX1_let 16 = .ok (.ifCond .ne 7, 3) := by decide +kernel
theorem dX1_let_19 : decode cX1_let 19 = .ok (.iconst 1, 1) := by decide +kernel
theorem dX1_let_20 : decode cX1_let 20 = .ok (.goto 4, 3) := by decide +kernel
theorem dX1_let_23 : decode cX1_let 23 = .ok (.iconst 0, 1) := by decide +kernel
theorem dX1_let_24 : decode cX1_let 24 = .ok (.invokestatic 98, 3) := by decide +kernel
theorem dX1_let_27 : decode cX1_let 27 = .ok (.iload_n 2, 1) := by decide +kernel
theorem dX1_let_28 : decode cX1_let 28 = .ok (.invokestatic 145, 3) := by decide +kernel
theorem dX1_let_31 : decode cX1_let 31 = .ok (.ifCond .eq 37, 3) := by decide +kernel
theorem dX1_let_34 : decode cX1_let 34 = .ok (.iload_n 2, 1) := by decide +kernel
theorem dX1_let_35 : decode cX1_let 35 = .ok (.aload 5, 2) := by decide +kernel
theorem dX1_let_37 : decode cX1_let 37 = .ok (.getfield 219, 3) := by decide +kernel
theorem dX1_let_40 : decode cX1_let 40 = .ok (.if_icmp .eq 28, 3) := by decide +kernel
theorem dX1_let_43 : decode cX1_let 43 = .ok (.iload_n 3, 1) := by decide +kernel
theorem dX1_let_44 : decode cX1_let 44 = .ok (.aload_n 0, 1) := by decide +kernel
theorem dX1_let_45 : decode cX1_let 45 = .ok (.getfield 207, 3) := by decide +kernel
theorem dX1_let_48 : decode cX1_let 48 = .ok (.if_icmp .lt 20, 3) := by decide +kernel
theorem dX1_let_51 : decode cX1_let 51 = .ok (.iload_n 3, 1) := by decide +kernel
theorem dX1_let_52 : decode cX1_let 52 = .ok (.iload 4, 2) := by decide +kernel
theorem dX1_let_54 : decode cX1_let 54 = .ok (.if_icmp .ge 14, 3) := by decide +kernel
theorem dX1_let_57 : decode cX1_let 57 = .ok (.iload 4, 2) := by decide +kernel
theorem dX1_let_59 : decode cX1_let 59 = .ok (.ldc 232, 2) := by decide +kernel
theorem dX1_let_61 : decode cX1_let 61 = .ok (.if_icmp .gt 7, 3) := by decide +kernel
theorem dX1_let_64 : decode cX1_let 64 = .ok (.iconst 1, 1) := by decide +kernel
theorem dX1_let_65 : decode cX1_let 65 = .ok (.goto 4, 3) := by decide +kernel
theorem dX1_let_68 : decode cX1_let 68 = .ok (.iconst 0, 1) := by decide +kernel
theorem dX1_let_69 : decode cX1_let 69 = .ok (.invokestatic 115, 3) := by decide +kernel
theorem dX1_let_72 : decode cX1_let 72 = .ok (.aload 5, 2) := by decide +kernel
theorem dX1_let_74 : decode cX1_let 74 = .ok (.iload_n 2, 1) := by decide +kernel
theorem dX1_let_75 : decode cX1_let 75 = .ok (.putfield 233, 3) := by decide +kernel
theorem dX1_let_78 : decode cX1_let 78 = .ok (.aload 5, 2) := by decide +kernel
theorem dX1_let_80 : decode cX1_let 80 = .ok (.iload_n 3, 1) := by decide +kernel
theorem dX1_let_81 : decode cX1_let 81 = .ok (.putfield 236, 3) := by decide +kernel
theorem dX1_let_84 : decode cX1_let 84 = .ok (.aload 5, 2) := by decide +kernel
theorem dX1_let_86 : decode cX1_let 86 = .ok (.iload 4, 2) := by decide +kernel
theorem dX1_let_88 : decode cX1_let 88 = .ok (.putfield 239, 3) := by decide +kernel
theorem dX1_let_91 : decode cX1_let 91 = .ok (.return_, 1) := by decide +kernel
theorem dX1_minutes_0 : decode cX1_minutes 0 = .ok (.iload_n 1, 1) := by decide +kernel
theorem dX1_minutes_1 : decode cX1_minutes 1 = .ok (.iconst 0, 1) := by decide +kernel
theorem dX1_minutes_2 : decode cX1_minutes 2 = .ok (.ldc 242, 2) := by decide +kernel
theorem dX1_minutes_4 : decode cX1_minutes 4 = .ok (.invokestatic 79, 3) := by decide +kernel
theorem dX1_minutes_7 : decode cX1_minutes 7 = .ok (.invokestatic 115, 3) := by decide +kernel
theorem dX1_minutes_10 : decode cX1_minutes 10 = .ok (.aload_n 0, 1) := by decide +kernel
theorem dX1_minutes_11 : decode cX1_minutes 11 = .ok (.dup, 1) := by decide +kernel
theorem dX1_minutes_12 : decode cX1_minutes 12 = .ok (.getfield 207, 3) := by decide +kernel
theorem dX1_minutes_15 : decode cX1_minutes 15 = .ok (.iload_n 1, 1) := by decide +kernel
theorem dX1_minutes_16 : decode cX1_minutes 16 = .ok (.iadd, 1) := by decide +kernel
theorem dX1_minutes_17 : decode cX1_minutes 17 = .ok (.putfield 207, 3) := by decide +kernel
theorem dX1_minutes_20 : decode cX1_minutes 20 = .ok (.aload_n 0, 1) := by decide +kernel
theorem dX1_minutes_21 : decode cX1_minutes 21 = .ok (.getfield 207, 3) := by decide +kernel
theorem dX1_minutes_24 : decode cX1_minutes 24 = .ok (.ireturn, 1) := by decide +kernel
theorem dX1_holder_0 : decode cX1_holder 0 = .ok (.aload_n 0, 1) := by decide +kernel
theorem dX1_holder_1 : decode cX1_holder 1 = .ok (.iload_n 1, 1) := by decide +kernel
theorem dX1_holder_2 : decode cX1_holder 2 = .ok (.invokevirtual 90, 3) := by decide +kernel
theorem dX1_holder_5 : decode cX1_holder 5 = .ok (.astore_n 3, 1) := by decide +kernel
theorem dX1_holder_6 : decode cX1_holder 6 = .ok (.iload_n 2, 1) := by decide +kernel
theorem dX1_holder_7 : decode cX1_holder 7 = .ok (.ifCond .lt 7, 3) := by decide +kernel
theorem dX1_holder_10 : decode cX1_holder 10 = .ok (.iconst 1, 1) := by decide +kernel
theorem dX1_holder_11 : decode cX1_holder 11 = .ok (.goto 4, 3) := by decide +kernel
theorem dX1_holder_14 : decode cX1_holder 14 = .ok (.iconst 0, 1) := by decide +kernel
theorem dX1_holder_15 : decode cX1_holder 15 = .ok (.invokestatic 115, 3) := by decide +kernel
theorem dX1_holder_18 : decode cX1_holder 18 = .ok (.aload_n 3, 1) := by decide +kernel
theorem dX1_holder_19 : decode cX1_holder 19 = .ok (.invokevirtual 94, 3) := by decide +kernel
theorem dX1_holder_22 : decode cX1_holder 22 = .ok (.ifCond .ne 5, 3) := by decide +kernel
theorem dX1_holder_25 : decode cX1_holder 25 = .ok (.iconst (-1), 1) := by decide +kernel
theorem dX1_holder_26 : decode cX1_holder 26 = .ok (.ireturn, 1) := by decide +kernel
theorem dX1_holder_27 : decode cX1_holder 27 = .ok (.iload_n 2, 1) := by decide +kernel
theorem dX1_holder_28 : decode cX1_holder 28 = .ok (.aload_n 3, 1) := by decide +kernel
theorem dX1_holder_29 : decode cX1_holder 29 = .ok (.getfield 159, 3) := by decide +kernel
theorem dX1_holder_32 : decode cX1_holder 32 = .ok (.irem, 1) := by decide +kernel
theorem dX1_holder_33 : decode cX1_holder 33 = .ok (.istore 4, 2) := by decide +kernel
theorem dX1_holder_35 : decode cX1_holder 35 = .ok (.iconst 0, 1) := by decide +kernel
theorem dX1_holder_36 : decode cX1_holder 36 = .ok (.istore 5, 2) := by decide +kernel
theorem dX1_holder_38 : decode cX1_holder 38 = .ok (.aload_n 0, 1) := by decide +kernel
theorem dX1_holder_39 : decode cX1_holder 39 = .ok (.getfield 24, 3) := by decide +kernel
theorem dX1_holder_42 : decode cX1_holder 42 = .ok (.iload 5, 2) := by decide +kernel
theorem dX1_holder_44 : decode cX1_holder 44 = .ok (.aaload, 1) := by decide +kernel
theorem dX1_holder_45 : decode cX1_holder 45 = .ok (.getfield 222, 3) := by decide +kernel
theorem dX1_holder_48 : decode cX1_holder 48 = .ok (.aload_n 3, 1) := by decide +kernel
theorem dX1_holder_49 : decode cX1_holder 49 = .ok (.if_acmp .ne 33, 3) := by decide +kernel
theorem dX1_holder_52 : decode cX1_holder 52 = .ok (.iload 4, 2) := by decide +kernel
theorem dX1_holder_54 : decode cX1_holder 54 = .ok (.aload_n 0, 1) := by decide +kernel
theorem dX1_holder_55 : decode cX1_holder 55 = .ok (.getfield 24, 3) := by decide +kernel
theorem dX1_holder_58 : decode cX1_holder 58 = .ok (.iload 5, 2) := by decide +kernel
theorem dX1_holder_60 : decode cX1_holder 60 = .ok (.aaload, 1) := by decide +kernel
theorem dX1_holder_61 : decode cX1_holder 61 = .ok (.getfield 213, 3) := by decide +kernel
theorem dX1_holder_64 : decode cX1_holder 64 = .ok (.if_icmp .lt 18, 3) := by decide +kernel
theorem dX1_holder_67 : decode cX1_holder 67 = .ok (.iload 4, 2) := by decide +kernel
theorem dX1_holder_69 : decode cX1_holder 69 = .ok (.aload_n 0, 1) := by decide +kernel
theorem dX1_holder_70 : decode cX1_holder 70 = .ok (.getfield 24, 3) := by decide +kernel
theorem dX1_holder_73 : decode cX1_holder 73 = .ok (.iload 5, 2) := by decide +kernel
theorem dX1_holder_75 : decode cX1_holder 75 = .ok (.aaload, 1) := by decide +kernel
theorem dX1_holder_76 : decode cX1_holder 76 = .ok (.getfield 216, 3) := by decide +kernel
theorem dX1_holder_79 : decode cX1_holder 79 = .ok (.if_icmp .lt 9, 3) := by decide +kernel
theorem dX1_holder_82 : decode cX1_holder 82 = .ok (.iinc 5 1, 3) := by decide +kernel
theorem dX1_holder_85 : decode cX1_holder 85 = .ok (.goto (-47), 3) := by decide +kernel
theorem dX1_holder_88 : decode cX1_holder 88 = .ok (.aload_n 0, 1) := by decide +kernel
theorem dX1_holder_89 : decode cX1_holder 89 = .ok (.getfield 24, 3) := by decide +kernel
theorem dX1_holder_92 : decode cX1_holder 92 = .ok (.iload 5, 2) := by decide +kernel
theorem dX1_holder_94 : decode cX1_holder 94 = .ok (.aaload, 1) := by decide +kernel
theorem dX1_holder_95 : decode cX1_holder 95 = .ok (.iload_n 2, 1) := by decide +kernel
theorem dX1_holder_96 : decode cX1_holder 96 = .ok (.invokevirtual 243, 3) := by decide +kernel
theorem dX1_holder_99 : decode cX1_holder 99 = .ok (.ireturn, 1) := by decide +kernel
theorem dX1_share_0 : decode cX1_share 0 = .ok (.aload_n 0, 1) := by decide +kernel
theorem dX1_share_1 : decode cX1_share 1 = .ok (.iload_n 1, 1) := by decide +kernel
theorem dX1_share_2 : decode cX1_share 2 = .ok (.invokevirtual 203, 3) := by decide +kernel
theorem dX1_share_5 : decode cX1_share 5 = .ok (.astore_n 3, 1) := by decide +kernel
theorem dX1_share_6 : decode cX1_share 6 = .ok (.iload_n 2, 1) := by decide +kernel
theorem dX1_share_7 : decode cX1_share 7 = .ok (.tableswitch 70 0 4 #[33, 38, 43, 48, 53], 33) := by decide +kernel
theorem dX1_share_40 : decode cX1_share 40 = .ok (.aload_n 3, 1) := by decide +kernel
theorem dX1_share_41 : decode cX1_share 41 = .ok (.getfield 226, 3) := by decide +kernel
theorem dX1_share_44 : decode cX1_share 44 = .ok (.ireturn, 1) := by decide +kernel
theorem dX1_share_45 : decode cX1_share 45 = .ok (.aload_n 3, 1) := by decide +kernel
theorem dX1_share_46 : decode cX1_share 46 = .ok (.getfield 213, 3) := by decide +kernel
theorem dX1_share_49 : decode cX1_share 49 = .ok (.ireturn, 1) := by decide +kernel
theorem dX1_share_50 : decode cX1_share 50 = .ok (.aload_n 3, 1) := by decide +kernel
theorem dX1_share_51 : decode cX1_share 51 = .ok (.getfield 216, 3) := by decide +kernel
theorem dX1_share_54 : decode cX1_share 54 = .ok (.ireturn, 1) := by decide +kernel
theorem dX1_share_55 : decode cX1_share 55 = .ok (.aload_n 3, 1) := by decide +kernel
theorem dX1_share_56 : decode cX1_share 56 = .ok (.getfield 219, 3) := by decide +kernel
theorem dX1_share_59 : decode cX1_share 59 = .ok (.ireturn, 1) := by decide +kernel
theorem dX1_share_60 : decode cX1_share 60 = .ok (.aload_n 3, 1) := by decide +kernel
theorem dX1_share_61 : decode cX1_share 61 = .ok (.aload_n 0, 1) := by decide +kernel
theorem dX1_share_62 : decode cX1_share 62 = .ok (.getfield 207, 3) := by decide +kernel
theorem dX1_share_65 : decode cX1_share 65 = .ok (.invokevirtual 210, 3) := by decide +kernel
theorem dX1_share_68 : decode cX1_share 68 = .ok (.ifCond .eq 7, 3) := by decide +kernel
theorem dX1_share_71 : decode cX1_share 71 = .ok (.iconst 1, 1) := by decide +kernel
theorem dX1_share_72 : decode cX1_share 72 = .ok (.goto 4, 3) := by decide +kernel
theorem dX1_share_75 : decode cX1_share 75 = .ok (.iconst 0, 1) := by decide +kernel
theorem dX1_share_76 : decode cX1_share 76 = .ok (.ireturn, 1) := by decide +kernel
theorem dX1_share_77 : decode cX1_share 77 = .ok (.new 247, 3) := by decide +kernel
theorem dX1_share_80 : decode cX1_share 80 = .ok (.dup, 1) := by decide +kernel
theorem dX1_share_81 : decode cX1_share 81 = .ok (.invokespecial 249, 3) := by decide +kernel
theorem dX1_share_84 : decode cX1_share 84 = .ok (.athrow, 1) := by decide +kernel
theorem dX1_law_0 : decode cX1_law 0 = .ok (.aload_n 0, 1) := by decide +kernel
theorem dX1_law_1 : decode cX1_law 1 = .ok (.getfield 10, 3) := by decide +kernel
theorem dX1_law_4 : decode cX1_law 4 = .ok (.getfield 108, 3) := by decide +kernel
theorem dX1_law_7 : decode cX1_law 7 = .ok (.istore_n 1, 1) := by decide +kernel
theorem dX1_law_8 : decode cX1_law 8 = .ok (.aload_n 0, 1) := by decide +kernel
theorem dX1_law_9 : decode cX1_law 9 = .ok (.getfield 10, 3) := by decide +kernel
theorem dX1_law_12 : decode cX1_law 12 = .ok (.iconst 0, 1) := by decide +kernel
theorem dX1_law_13 : decode cX1_law 13 = .ok (.putfield 108, 3) := by decide +kernel
theorem dX1_law_16 : decode cX1_law 16 = .ok (.aload_n 0, 1) := by decide +kernel
theorem dX1_law_17 : decode cX1_law 17 = .ok (.iconst (-1), 1) := by decide +kernel
theorem dX1_law_18 : decode cX1_law 18 = .ok (.putfield 64, 3) := by decide +kernel
theorem dX1_law_21 : decode cX1_law 21 = .ok (.aload_n 0, 1) := by decide +kernel
theorem dX1_law_22 : decode cX1_law 22 = .ok (.getfield 28, 3) := by decide +kernel
theorem dX1_law_25 : decode cX1_law 25 = .ok (.iconst 0, 1) := by decide +kernel
theorem dX1_law_26 : decode cX1_law 26 = .ok (.aload_n 0, 1) := by decide +kernel
theorem dX1_law_27 : decode cX1_law 27 = .ok (.getfield 32, 3) := by decide +kernel
theorem dX1_law_30 : decode cX1_law 30 = .ok (.iconst 0, 1) := by decide +kernel
theorem dX1_law_31 : decode cX1_law 31 = .ok (.iconst 4, 1) := by decide +kernel
theorem dX1_law_32 : decode cX1_law 32 = .ok (.invokestatic 250, 3) := by decide +kernel
theorem dX1_law_35 : decode cX1_law 35 = .ok (.aload_n 0, 1) := by decide +kernel
theorem dX1_law_36 : decode cX1_law 36 = .ok (.getfield 10, 3) := by decide +kernel
theorem dX1_law_39 : decode cX1_law 39 = .ok (.iload_n 1, 1) := by decide +kernel
theorem dX1_law_40 : decode cX1_law 40 = .ok (.aload_n 0, 1) := by decide +kernel
theorem dX1_law_41 : decode cX1_law 41 = .ok (.getfield 32, 3) := by decide +kernel
theorem dX1_law_44 : decode cX1_law 44 = .ok (.invokevirtual 256, 3) := by decide +kernel
theorem dX1_law_47 : decode cX1_law 47 = .ok (.istore_n 2, 1) := by decide +kernel
theorem dX1_law_48 : decode cX1_law 48 = .ok (.goto 20, 3) := by decide +kernel
theorem dX1_law_51 : decode cX1_law 51 = .ok (.astore_n 3, 1) := by decide +kernel
theorem dX1_law_52 : decode cX1_law 52 = .ok (.aload_n 0, 1) := by decide +kernel
theorem dX1_law_53 : decode cX1_law 53 = .ok (.aload_n 3, 1) := by decide +kernel
theorem dX1_law_54 : decode cX1_law 54 = .ok (.getfield 262, 3) := by decide +kernel
