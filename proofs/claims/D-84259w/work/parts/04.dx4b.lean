set_option maxRecDepth 100000
theorem dX4_flow_37 : decode cX4_flow 37 = .ok (.ifCond .eq 7, 3) := by decide +kernel
theorem dX4_flow_40 : decode cX4_flow 40 = .ok (.iconst 0, 1) := by decide +kernel
theorem dX4_flow_41 : decode cX4_flow 41 = .ok (.goto 10, 3) := by decide +kernel
theorem dX4_flow_44 : decode cX4_flow 44 = .ok (.aload_n 0, 1) := by decide +kernel
theorem dX4_flow_45 : decode cX4_flow 45 = .ok (.iload_n 1, 1) := by decide +kernel
theorem dX4_flow_46 : decode cX4_flow 46 = .ok (.bipush 8, 2) := by decide +kernel
theorem dX4_flow_48 : decode cX4_flow 48 = .ok (.invokevirtual 153, 3) := by decide +kernel
theorem dX4_flow_51 : decode cX4_flow 51 = .ok (.ireturn, 1) := by decide +kernel
theorem dX4_flows_0 : decode cX4_flows 0 = .ok (.iconst 0, 1) := by decide +kernel
theorem dX4_flows_1 : decode cX4_flows 1 = .ok (.istore_n 3, 1) := by decide +kernel
theorem dX4_flows_2 : decode cX4_flows 2 = .ok (.aload_n 0, 1) := by decide +kernel
theorem dX4_flows_3 : decode cX4_flows 3 = .ok (.iload_n 1, 1) := by decide +kernel
theorem dX4_flows_4 : decode cX4_flows 4 = .ok (.invokevirtual 140, 3) := by decide +kernel
theorem dX4_flows_7 : decode cX4_flows 7 = .ok (.iconst 1, 1) := by decide +kernel
theorem dX4_flows_8 : decode cX4_flows 8 = .ok (.isub, 1) := by decide +kernel
theorem dX4_flows_9 : decode cX4_flows 9 = .ok (.istore 4, 2) := by decide +kernel
theorem dX4_flows_11 : decode cX4_flows 11 = .ok (.iload 4, 2) := by decide +kernel
theorem dX4_flows_13 : decode cX4_flows 13 = .ok (.ifCond .lt 79, 3) := by decide +kernel
theorem dX4_flows_16 : decode cX4_flows 16 = .ok (.iload_n 3, 1) := by decide +kernel
theorem dX4_flows_17 : decode cX4_flows 17 = .ok (.aload_n 0, 1) := by decide +kernel
theorem dX4_flows_18 : decode cX4_flows 18 = .ok (.iload_n 1, 1) := by decide +kernel
theorem dX4_flows_19 : decode cX4_flows 19 = .ok (.iload 4, 2) := by decide +kernel
theorem dX4_flows_21 : decode cX4_flows 21 = .ok (.iload_n 2, 1) := by decide +kernel
theorem dX4_flows_22 : decode cX4_flows 22 = .ok (.invokevirtual 150, 3) := by decide +kernel
theorem dX4_flows_25 : decode cX4_flows 25 = .ok (.iadd, 1) := by decide +kernel
theorem dX4_flows_26 : decode cX4_flows 26 = .ok (.istore_n 3, 1) := by decide +kernel
theorem dX4_flows_27 : decode cX4_flows 27 = .ok (.iload 4, 2) := by decide +kernel
theorem dX4_flows_29 : decode cX4_flows 29 = .ok (.ifCond .ne 6, 3) := by decide +kernel
theorem dX4_flows_32 : decode cX4_flows 32 = .ok (.goto 54, 3) := by decide +kernel
theorem dX4_flows_35 : decode cX4_flows 35 = .ok (.aload_n 0, 1) := by decide +kernel
theorem dX4_flows_36 : decode cX4_flows 36 = .ok (.getfield 39, 3) := by decide +kernel
theorem dX4_flows_39 : decode cX4_flows 39 = .ok (.bipush 20, 2) := by decide +kernel
theorem dX4_flows_41 : decode cX4_flows 41 = .ok (.iload_n 1, 1) := by decide +kernel
theorem dX4_flows_42 : decode cX4_flows 42 = .ok (.imul, 1) := by decide +kernel
theorem dX4_flows_43 : decode cX4_flows 43 = .ok (.iload 4, 2) := by decide +kernel
theorem dX4_flows_45 : decode cX4_flows 45 = .ok (.iadd, 1) := by decide +kernel
theorem dX4_flows_46 : decode cX4_flows 46 = .ok (.iaload, 1) := by decide +kernel
theorem dX4_flows_47 : decode cX4_flows 47 = .ok (.aload_n 0, 1) := by decide +kernel
theorem dX4_flows_48 : decode cX4_flows 48 = .ok (.getfield 39, 3) := by decide +kernel
theorem dX4_flows_51 : decode cX4_flows 51 = .ok (.bipush 20, 2) := by decide +kernel
theorem dX4_flows_53 : decode cX4_flows 53 = .ok (.iload_n 1, 1) := by decide +kernel
theorem dX4_flows_54 : decode cX4_flows 54 = .ok (.imul, 1) := by decide +kernel
theorem dX4_flows_55 : decode cX4_flows 55 = .ok (.iload 4, 2) := by decide +kernel
theorem dX4_flows_57 : decode cX4_flows 57 = .ok (.iadd, 1) := by decide +kernel
theorem dX4_flows_58 : decode cX4_flows 58 = .ok (.iconst 1, 1) := by decide +kernel
theorem dX4_flows_59 : decode cX4_flows 59 = .ok (.isub, 1) := by decide +kernel
theorem dX4_flows_60 : decode cX4_flows 60 = .ok (.iaload, 1) := by decide +kernel
theorem dX4_flows_61 : decode cX4_flows 61 = .ok (.isub, 1) := by decide +kernel
theorem dX4_flows_62 : decode cX4_flows 62 = .ok (.istore 5, 2) := by decide +kernel
theorem dX4_flows_64 : decode cX4_flows 64 = .ok (.iload 5, 2) := by decide +kernel
theorem dX4_flows_66 : decode cX4_flows 66 = .ok (.ifCond .eq 10, 3) := by decide +kernel
theorem dX4_flows_69 : decode cX4_flows 69 = .ok (.iload 5, 2) := by decide +kernel
theorem dX4_flows_71 : decode cX4_flows 71 = .ok (.bipush 20, 2) := by decide +kernel
theorem dX4_flows_73 : decode cX4_flows 73 = .ok (.if_icmp .le 13, 3) := by decide +kernel
theorem dX4_flows_76 : decode cX4_flows 76 = .ok (.iload_n 3, 1) := by decide +kernel
theorem dX4_flows_77 : decode cX4_flows 77 = .ok (.iload_n 3, 1) := by decide +kernel
theorem dX4_flows_78 : decode cX4_flows 78 = .ok (.bipush 99, 2) := by decide +kernel
theorem dX4_flows_80 : decode cX4_flows 80 = .ok (.iadd, 1) := by decide +kernel
theorem dX4_flows_81 : decode cX4_flows 81 = .ok (.bipush 100, 2) := by decide +kernel
theorem dX4_flows_83 : decode cX4_flows 83 = .ok (.idiv, 1) := by decide +kernel
theorem dX4_flows_84 : decode cX4_flows 84 = .ok (.isub, 1) := by decide +kernel
theorem dX4_flows_85 : decode cX4_flows 85 = .ok (.istore_n 3, 1) := by decide +kernel
theorem dX4_flows_86 : decode cX4_flows 86 = .ok (.iinc 4 (-1), 3) := by decide +kernel
theorem dX4_flows_89 : decode cX4_flows 89 = .ok (.goto (-78), 3) := by decide +kernel
theorem dX4_flows_92 : decode cX4_flows 92 = .ok (.iload_n 3, 1) := by decide +kernel
theorem dX4_flows_93 : decode cX4_flows 93 = .ok (.ireturn, 1) := by decide +kernel
theorem dX4_runs_0 : decode cX4_runs 0 = .ok (.iconst 0, 1) := by decide +kernel
theorem dX4_runs_1 : decode cX4_runs 1 = .ok (.istore_n 2, 1) := by decide +kernel
theorem dX4_runs_2 : decode cX4_runs 2 = .ok (.iload_n 2, 1) := by decide +kernel
theorem dX4_runs_3 : decode cX4_runs 3 = .ok (.aload_n 0, 1) := by decide +kernel
theorem dX4_runs_4 : decode cX4_runs 4 = .ok (.getfield 16, 3) := by decide +kernel
theorem dX4_runs_7 : decode cX4_runs 7 = .ok (.iload_n 1, 1) := by decide +kernel
theorem dX4_runs_8 : decode cX4_runs 8 = .ok (.iaload, 1) := by decide +kernel
theorem dX4_runs_9 : decode cX4_runs 9 = .ok (.if_icmp .ge 23, 3) := by decide +kernel
theorem dX4_runs_12 : decode cX4_runs 12 = .ok (.aload_n 0, 1) := by decide +kernel
theorem dX4_runs_13 : decode cX4_runs 13 = .ok (.getfield 42, 3) := by decide +kernel
theorem dX4_runs_16 : decode cX4_runs 16 = .ok (.bipush 20, 2) := by decide +kernel
theorem dX4_runs_18 : decode cX4_runs 18 = .ok (.iload_n 1, 1) := by decide +kernel
theorem dX4_runs_19 : decode cX4_runs 19 = .ok (.imul, 1) := by decide +kernel
theorem dX4_runs_20 : decode cX4_runs 20 = .ok (.iload_n 2, 1) := by decide +kernel
theorem dX4_runs_21 : decode cX4_runs 21 = .ok (.iadd, 1) := by decide +kernel
theorem dX4_runs_22 : decode cX4_runs 22 = .ok (.baload, 1) := by decide +kernel
theorem dX4_runs_23 : decode cX4_runs 23 = .ok (.ifCond .ne 9, 3) := by decide +kernel
theorem dX4_runs_26 : decode cX4_runs 26 = .ok (.iinc 2 1, 3) := by decide +kernel
theorem dX4_runs_29 : decode cX4_runs 29 = .ok (.goto (-27), 3) := by decide +kernel
theorem dX4_runs_32 : decode cX4_runs 32 = .ok (.iload_n 2, 1) := by decide +kernel
theorem dX4_runs_33 : decode cX4_runs 33 = .ok (.ireturn, 1) := by decide +kernel
theorem dX4_seeps_0 : decode cX4_seeps 0 = .ok (.bipush 20, 2) := by decide +kernel
theorem dX4_seeps_2 : decode cX4_seeps 2 = .ok (.iload_n 1, 1) := by decide +kernel
theorem dX4_seeps_3 : decode cX4_seeps 3 = .ok (.imul, 1) := by decide +kernel
theorem dX4_seeps_4 : decode cX4_seeps 4 = .ok (.iload_n 2, 1) := by decide +kernel
theorem dX4_seeps_5 : decode cX4_seeps 5 = .ok (.iadd, 1) := by decide +kernel
theorem dX4_seeps_6 : decode cX4_seeps 6 = .ok (.istore 4, 2) := by decide +kernel
theorem dX4_seeps_8 : decode cX4_seeps 8 = .ok (.aload_n 0, 1) := by decide +kernel
theorem dX4_seeps_9 : decode cX4_seeps 9 = .ok (.getfield 7, 3) := by decide +kernel
theorem dX4_seeps_12 : decode cX4_seeps 12 = .ok (.aload_n 0, 1) := by decide +kernel
theorem dX4_seeps_13 : decode cX4_seeps 13 = .ok (.getfield 13, 3) := by decide +kernel
theorem dX4_seeps_16 : decode cX4_seeps 16 = .ok (.aload_n 0, 1) := by decide +kernel
theorem dX4_seeps_17 : decode cX4_seeps 17 = .ok (.getfield 33, 3) := by decide +kernel
theorem dX4_seeps_20 : decode cX4_seeps 20 = .ok (.iload 4, 2) := by decide +kernel
theorem dX4_seeps_22 : decode cX4_seeps 22 = .ok (.iaload, 1) := by decide +kernel
theorem dX4_seeps_23 : decode cX4_seeps 23 = .ok (.imul, 1) := by decide +kernel
theorem dX4_seeps_24 : decode cX4_seeps 24 = .ok (.iadd, 1) := by decide +kernel
theorem dX4_seeps_25 : decode cX4_seeps 25 = .ok (.istore 5, 2) := by decide +kernel
theorem dX4_seeps_27 : decode cX4_seeps 27 = .ok (.iconst 0, 1) := by decide +kernel
theorem dX4_seeps_28 : decode cX4_seeps 28 = .ok (.istore 6, 2) := by decide +kernel
theorem dX4_seeps_30 : decode cX4_seeps 30 = .ok (.iload 6, 2) := by decide +kernel
theorem dX4_seeps_32 : decode cX4_seeps 32 = .ok (.aload_n 0, 1) := by decide +kernel
theorem dX4_seeps_33 : decode cX4_seeps 33 = .ok (.getfield 91, 3) := by decide +kernel
theorem dX4_seeps_36 : decode cX4_seeps 36 = .ok (.if_icmp .ge 61, 3) := by decide +kernel
theorem dX4_seeps_39 : decode cX4_seeps 39 = .ok (.iload 6, 2) := by decide +kernel
theorem dX4_seeps_41 : decode cX4_seeps 41 = .ok (.iload_n 1, 1) := by decide +kernel
theorem dX4_seeps_42 : decode cX4_seeps 42 = .ok (.if_icmp .eq 49, 3) := by decide +kernel
theorem dX4_seeps_45 : decode cX4_seeps 45 = .ok (.aload_n 0, 1) := by decide +kernel
theorem dX4_seeps_46 : decode cX4_seeps 46 = .ok (.getfield 20, 3) := by decide +kernel
theorem dX4_seeps_49 : decode cX4_seeps 49 = .ok (.iload 6, 2) := by decide +kernel
theorem dX4_seeps_51 : decode cX4_seeps 51 = .ok (.baload, 1) := by decide +kernel
theorem dX4_seeps_52 : decode cX4_seeps 52 = .ok (.ifCond .eq 39, 3) := by decide +kernel
theorem dX4_seeps_55 : decode cX4_seeps 55 = .ok (.aload_n 0, 1) := by decide +kernel
theorem dX4_seeps_56 : decode cX4_seeps 56 = .ok (.getfield 27, 3) := by decide +kernel
theorem dX4_seeps_59 : decode cX4_seeps 59 = .ok (.iload 6, 2) := by decide +kernel
theorem dX4_seeps_61 : decode cX4_seeps 61 = .ok (.iaload, 1) := by decide +kernel
theorem dX4_seeps_62 : decode cX4_seeps 62 = .ok (.iload_n 3, 1) := by decide +kernel
theorem dX4_seeps_63 : decode cX4_seeps 63 = .ok (.if_icmp .gt 28, 3) := by decide +kernel
theorem dX4_seeps_66 : decode cX4_seeps 66 = .ok (.iload 5, 2) := by decide +kernel
theorem dX4_seeps_68 : decode cX4_seeps 68 = .ok (.aload_n 0, 1) := by decide +kernel
theorem dX4_seeps_69 : decode cX4_seeps 69 = .ok (.iload 6, 2) := by decide +kernel
theorem dX4_seeps_71 : decode cX4_seeps 71 = .ok (.aload_n 0, 1) := by decide +kernel
theorem dX4_seeps_72 : decode cX4_seeps 72 = .ok (.getfield 33, 3) := by decide +kernel
theorem dX4_seeps_75 : decode cX4_seeps 75 = .ok (.iload 4, 2) := by decide +kernel
theorem dX4_seeps_77 : decode cX4_seeps 77 = .ok (.iaload, 1) := by decide +kernel
theorem dX4_seeps_78 : decode cX4_seeps 78 = .ok (.aload_n 0, 1) := by decide +kernel
theorem dX4_seeps_79 : decode cX4_seeps 79 = .ok (.getfield 36, 3) := by decide +kernel
theorem dX4_seeps_82 : decode cX4_seeps 82 = .ok (.iload 4, 2) := by decide +kernel
theorem dX4_seeps_84 : decode cX4_seeps 84 = .ok (.iaload, 1) := by decide +kernel
theorem dX4_seeps_85 : decode cX4_seeps 85 = .ok (.invokevirtual 143, 3) := by decide +kernel
theorem dX4_seeps_88 : decode cX4_seeps 88 = .ok (.isub, 1) := by decide +kernel
theorem dX4_seeps_89 : decode cX4_seeps 89 = .ok (.istore 5, 2) := by decide +kernel
theorem dX4_seeps_91 : decode cX4_seeps 91 = .ok (.iinc 6 1, 3) := by decide +kernel
theorem dX4_seeps_94 : decode cX4_seeps 94 = .ok (.goto (-64), 3) := by decide +kernel
theorem dX4_seeps_97 : decode cX4_seeps 97 = .ok (.iload 5, 2) := by decide +kernel
theorem dX4_seeps_99 : decode cX4_seeps 99 = .ok (.aload_n 0, 1) := by decide +kernel
theorem dX4_seeps_100 : decode cX4_seeps 100 = .ok (.getfield 39, 3) := by decide +kernel
theorem dX4_seeps_103 : decode cX4_seeps 103 = .ok (.iload 4, 2) := by decide +kernel
theorem dX4_seeps_105 : decode cX4_seeps 105 = .ok (.iaload, 1) := by decide +kernel
theorem dX4_seeps_106 : decode cX4_seeps 106 = .ok (.if_icmp .gt 7, 3) := by decide +kernel
theorem dX4_seeps_109 : decode cX4_seeps 109 = .ok (.iconst 0, 1) := by decide +kernel
theorem dX4_seeps_110 : decode cX4_seeps 110 = .ok (.goto 21, 3) := by decide +kernel
theorem dX4_seeps_113 : decode cX4_seeps 113 = .ok (.bipush 50, 2) := by decide +kernel
theorem dX4_seeps_115 : decode cX4_seeps 115 = .ok (.iload 5, 2) := by decide +kernel
theorem dX4_seeps_117 : decode cX4_seeps 117 = .ok (.aload_n 0, 1) := by decide +kernel
theorem dX4_seeps_118 : decode cX4_seeps 118 = .ok (.getfield 39, 3) := by decide +kernel
theorem dX4_seeps_121 : decode cX4_seeps 121 = .ok (.iload 4, 2) := by decide +kernel
theorem dX4_seeps_123 : decode cX4_seeps 123 = .ok (.iaload, 1) := by decide +kernel
theorem dX4_seeps_124 : decode cX4_seeps 124 = .ok (.isub, 1) := by decide +kernel
theorem dX4_seeps_125 : decode cX4_seeps 125 = .ok (.bipush 10, 2) := by decide +kernel
theorem dX4_seeps_127 : decode cX4_seeps 127 = .ok (.idiv, 1) := by decide +kernel
theorem dX4_seeps_128 : decode cX4_seeps 128 = .ok (.invokestatic 147, 3) := by decide +kernel
theorem dX4_seeps_131 : decode cX4_seeps 131 = .ok (.ireturn, 1) := by decide +kernel
theorem dX4_draw_0 : decode cX4_draw 0 = .ok (.iconst 0, 1) := by decide +kernel
theorem dX4_draw_1 : decode cX4_draw 1 = .ok (.istore 4, 2) := by decide +kernel
theorem dX4_draw_3 : decode cX4_draw 3 = .ok (.bipush 20, 2) := by decide +kernel
theorem dX4_draw_5 : decode cX4_draw 5 = .ok (.iload_n 1, 1) := by decide +kernel
theorem dX4_draw_6 : decode cX4_draw 6 = .ok (.imul, 1) := by decide +kernel
theorem dX4_draw_7 : decode cX4_draw 7 = .ok (.istore 5, 2) := by decide +kernel
theorem dX4_draw_9 : decode cX4_draw 9 = .ok (.iload 5, 2) := by decide +kernel
theorem dX4_draw_11 : decode cX4_draw 11 = .ok (.bipush 20, 2) := by decide +kernel
theorem dX4_draw_13 : decode cX4_draw 13 = .ok (.iload_n 1, 1) := by decide +kernel
theorem dX4_draw_14 : decode cX4_draw 14 = .ok (.imul, 1) := by decide +kernel
theorem dX4_draw_15 : decode cX4_draw 15 = .ok (.aload_n 0, 1) := by decide +kernel
theorem dX4_draw_16 : decode cX4_draw 16 = .ok (.iload_n 1, 1) := by decide +kernel
theorem dX4_draw_17 : decode cX4_draw 17 = .ok (.invokevirtual 140, 3) := by decide +kernel
theorem dX4_draw_20 : decode cX4_draw 20 = .ok (.iadd, 1) := by decide +kernel
theorem dX4_draw_21 : decode cX4_draw 21 = .ok (.if_icmp .ge 38, 3) := by decide +kernel
theorem dX4_draw_24 : decode cX4_draw 24 = .ok (.iload 4, 2) := by decide +kernel
theorem dX4_draw_26 : decode cX4_draw 26 = .ok (.bipush 30, 2) := by decide +kernel
theorem dX4_draw_28 : decode cX4_draw 28 = .ok (.iload_n 2, 1) := by decide +kernel
theorem dX4_draw_29 : decode cX4_draw 29 = .ok (.iload_n 3, 1) := by decide +kernel
theorem dX4_draw_30 : decode cX4_draw 30 = .ok (.aload_n 0, 1) := by decide +kernel
theorem dX4_draw_31 : decode cX4_draw 31 = .ok (.getfield 33, 3) := by decide +kernel
theorem dX4_draw_34 : decode cX4_draw 34 = .ok (.iload 5, 2) := by decide +kernel
theorem dX4_draw_36 : decode cX4_draw 36 = .ok (.iaload, 1) := by decide +kernel
theorem dX4_draw_37 : decode cX4_draw 37 = .ok (.aload_n 0, 1) := by decide +kernel
theorem dX4_draw_38 : decode cX4_draw 38 = .ok (.getfield 36, 3) := by decide +kernel
theorem dX4_draw_41 : decode cX4_draw 41 = .ok (.iload 5, 2) := by decide +kernel
theorem dX4_draw_43 : decode cX4_draw 43 = .ok (.iaload, 1) := by decide +kernel
theorem dX4_draw_44 : decode cX4_draw 44 = .ok (.invokestatic 119, 3) := by decide +kernel
theorem dX4_draw_47 : decode cX4_draw 47 = .ok (.isub, 1) := by decide +kernel
theorem dX4_draw_48 : decode cX4_draw 48 = .ok (.invokestatic 115, 3) := by decide +kernel
theorem dX4_draw_51 : decode cX4_draw 51 = .ok (.istore 4, 2) := by decide +kernel
theorem dX4_draw_53 : decode cX4_draw 53 = .ok (.iinc 5 1, 3) := by decide +kernel
theorem dX4_draw_56 : decode cX4_draw 56 = .ok (.goto (-47), 3) := by decide +kernel
theorem dX4_draw_59 : decode cX4_draw 59 = .ok (.aload_n 0, 1) := by decide +kernel
theorem dX4_draw_60 : decode cX4_draw 60 = .ok (.getfield 126, 3) := by decide +kernel
theorem dX4_draw_63 : decode cX4_draw 63 = .ok (.aload_n 0, 1) := by decide +kernel
theorem dX4_draw_64 : decode cX4_draw 64 = .ok (.getfield 24, 3) := by decide +kernel
theorem dX4_draw_67 : decode cX4_draw 67 = .ok (.iload_n 1, 1) := by decide +kernel
theorem dX4_draw_68 : decode cX4_draw 68 = .ok (.iaload, 1) := by decide +kernel
theorem dX4_draw_69 : decode cX4_draw 69 = .ok (.isub, 1) := by decide +kernel
theorem dX4_draw_70 : decode cX4_draw 70 = .ok (.istore 5, 2) := by decide +kernel
theorem dX4_draw_72 : decode cX4_draw 72 = .ok (.iload 5, 2) := by decide +kernel
theorem dX4_draw_74 : decode cX4_draw 74 = .ok (.iconst 5, 1) := by decide +kernel
theorem dX4_draw_75 : decode cX4_draw 75 = .ok (.if_icmp .ge 13, 3) := by decide +kernel
theorem dX4_draw_78 : decode cX4_draw 78 = .ok (.iload 4, 2) := by decide +kernel
theorem dX4_draw_80 : decode cX4_draw 80 = .ok (.iload 5, 2) := by decide +kernel
theorem dX4_draw_82 : decode cX4_draw 82 = .ok (.imul, 1) := by decide +kernel
theorem dX4_draw_83 : decode cX4_draw 83 = .ok (.iconst 5, 1) := by decide +kernel
theorem dX4_draw_84 : decode cX4_draw 84 = .ok (.idiv, 1) := by decide +kernel
theorem dX4_draw_85 : decode cX4_draw 85 = .ok (.goto 5, 3) := by decide +kernel
theorem dX4_draw_88 : decode cX4_draw 88 = .ok (.iload 4, 2) := by decide +kernel
theorem dX4_draw_90 : decode cX4_draw 90 = .ok (.ireturn, 1) := by decide +kernel
theorem dX4_harm_0 : decode cX4_harm 0 = .ok (.aload_n 0, 1) := by decide +kernel
theorem dX4_harm_1 : decode cX4_harm 1 = .ok (.iconst 0, 1) := by decide +kernel
theorem dX4_harm_2 : decode cX4_harm 2 = .ok (.putfield 88, 3) := by decide +kernel
theorem dX4_harm_5 : decode cX4_harm 5 = .ok (.aload_n 0, 1) := by decide +kernel
theorem dX4_harm_6 : decode cX4_harm 6 = .ok (.aload_n 0, 1) := by decide +kernel
theorem dX4_harm_7 : decode cX4_harm 7 = .ok (.iload_n 1, 1) := by decide +kernel
theorem dX4_harm_8 : decode cX4_harm 8 = .ok (.invokevirtual 98, 3) := by decide +kernel
theorem dX4_harm_11 : decode cX4_harm 11 = .ok (.iconst 1, 1) := by decide +kernel
theorem dX4_harm_12 : decode cX4_harm 12 = .ok (.invokevirtual 105, 3) := by decide +kernel
theorem dX4_harm_15 : decode cX4_harm 15 = .ok (.ifCond .ne 25, 3) := by decide +kernel
theorem dX4_harm_18 : decode cX4_harm 18 = .ok (.aload_n 0, 1) := by decide +kernel
theorem dX4_harm_19 : decode cX4_harm 19 = .ok (.aload_n 0, 1) := by decide +kernel
theorem dX4_harm_20 : decode cX4_harm 20 = .ok (.getfield 20, 3) := by decide +kernel
theorem dX4_harm_23 : decode cX4_harm 23 = .ok (.iload_n 1, 1) := by decide +kernel
theorem dX4_harm_24 : decode cX4_harm 24 = .ok (.baload, 1) := by decide +kernel
theorem dX4_harm_25 : decode cX4_harm 25 = .ok (.ifCond .ne 7, 3) := by decide +kernel
theorem dX4_harm_28 : decode cX4_harm 28 = .ok (.iconst 1, 1) := by decide +kernel
theorem dX4_harm_29 : decode cX4_harm 29 = .ok (.goto 4, 3) := by decide +kernel
theorem dX4_harm_32 : decode cX4_harm 32 = .ok (.iconst 0, 1) := by decide +kernel
theorem dX4_harm_33 : decode cX4_harm 33 = .ok (.iconst 2, 1) := by decide +kernel
theorem dX4_harm_34 : decode cX4_harm 34 = .ok (.invokevirtual 105, 3) := by decide +kernel
theorem dX4_harm_37 : decode cX4_harm 37 = .ok (.ifCond .eq 7, 3) := by decide +kernel
theorem dX4_harm_40 : decode cX4_harm 40 = .ok (.iconst 0, 1) := by decide +kernel
theorem dX4_harm_41 : decode cX4_harm 41 = .ok (.goto 22, 3) := by decide +kernel
theorem dX4_harm_44 : decode cX4_harm 44 = .ok (.aload_n 0, 1) := by decide +kernel
theorem dX4_harm_45 : decode cX4_harm 45 = .ok (.iload_n 1, 1) := by decide +kernel
theorem dX4_harm_46 : decode cX4_harm 46 = .ok (.aload_n 0, 1) := by decide +kernel
theorem dX4_harm_47 : decode cX4_harm 47 = .ok (.getfield 27, 3) := by decide +kernel
theorem dX4_harm_50 : decode cX4_harm 50 = .ok (.iload_n 1, 1) := by decide +kernel
theorem dX4_harm_51 : decode cX4_harm 51 = .ok (.iaload, 1) := by decide +kernel
theorem dX4_harm_52 : decode cX4_harm 52 = .ok (.invokevirtual 153, 3) := by decide +kernel
theorem dX4_harm_55 : decode cX4_harm 55 = .ok (.aload_n 0, 1) := by decide +kernel
theorem dX4_harm_56 : decode cX4_harm 56 = .ok (.iload_n 1, 1) := by decide +kernel
theorem dX4_harm_57 : decode cX4_harm 57 = .ok (.bipush 8, 2) := by decide +kernel
theorem dX4_harm_59 : decode cX4_harm 59 = .ok (.invokevirtual 153, 3) := by decide +kernel
theorem dX4_harm_62 : decode cX4_harm 62 = .ok (.isub, 1) := by decide +kernel
theorem dX4_harm_63 : decode cX4_harm 63 = .ok (.ireturn, 1) := by decide +kernel
theorem dX4_seep_0 : decode cX4_seep 0 = .ok (.aload_n 0, 1) := by decide +kernel
theorem dX4_seep_1 : decode cX4_seep 1 = .ok (.iconst 0, 1) := by decide +kernel
theorem dX4_seep_2 : decode cX4_seep 2 = .ok (.putfield 88, 3) := by decide +kernel
theorem dX4_seep_5 : decode cX4_seep 5 = .ok (.aload_n 0, 1) := by decide +kernel
theorem dX4_seep_6 : decode cX4_seep 6 = .ok (.aload_n 0, 1) := by decide +kernel
theorem dX4_seep_7 : decode cX4_seep 7 = .ok (.iload_n 1, 1) := by decide +kernel
theorem dX4_seep_8 : decode cX4_seep 8 = .ok (.iload_n 2, 1) := by decide +kernel
theorem dX4_seep_9 : decode cX4_seep 9 = .ok (.invokevirtual 136, 3) := by decide +kernel
theorem dX4_seep_12 : decode cX4_seep 12 = .ok (.iconst 1, 1) := by decide +kernel
theorem dX4_seep_13 : decode cX4_seep 13 = .ok (.invokevirtual 105, 3) := by decide +kernel
theorem dX4_seep_16 : decode cX4_seep 16 = .ok (.ifCond .ne 25, 3) := by decide +kernel
theorem dX4_seep_19 : decode cX4_seep 19 = .ok (.aload_n 0, 1) := by decide +kernel
theorem dX4_seep_20 : decode cX4_seep 20 = .ok (.aload_n 0, 1) := by decide +kernel
theorem dX4_seep_21 : decode cX4_seep 21 = .ok (.getfield 20, 3) := by decide +kernel
theorem dX4_seep_24 : decode cX4_seep 24 = .ok (.iload_n 1, 1) := by decide +kernel
theorem dX4_seep_25 : decode cX4_seep 25 = .ok (.baload, 1) := by decide +kernel
theorem dX4_seep_26 : decode cX4_seep 26 = .ok (.ifCond .ne 7, 3) := by decide +kernel
theorem dX4_seep_29 : decode cX4_seep 29 = .ok (.iconst 1, 1) := by decide +kernel
theorem dX4_seep_30 : decode cX4_seep 30 = .ok (.goto 4, 3) := by decide +kernel
theorem dX4_seep_33 : decode cX4_seep 33 = .ok (.iconst 0, 1) := by decide +kernel
theorem dX4_seep_34 : decode cX4_seep 34 = .ok (.iconst 2, 1) := by decide +kernel
theorem dX4_seep_35 : decode cX4_seep 35 = .ok (.invokevirtual 105, 3) := by decide +kernel
theorem dX4_seep_38 : decode cX4_seep 38 = .ok (.ifCond .eq 5, 3) := by decide +kernel
theorem dX4_seep_41 : decode cX4_seep 41 = .ok (.iconst 0, 1) := by decide +kernel
theorem dX4_seep_42 : decode cX4_seep 42 = .ok (.ireturn, 1) := by decide +kernel
theorem dX4_seep_43 : decode cX4_seep 43 = .ok (.iload_n 2, 1) := by decide +kernel
theorem dX4_seep_44 : decode cX4_seep 44 = .ok (.aload_n 0, 1) := by decide +kernel
theorem dX4_seep_45 : decode cX4_seep 45 = .ok (.iload_n 1, 1) := by decide +kernel
theorem dX4_seep_46 : decode cX4_seep 46 = .ok (.invokevirtual 140, 3) := by decide +kernel
theorem dX4_seep_49 : decode cX4_seep 49 = .ok (.if_icmp .ge 14, 3) := by decide +kernel
theorem dX4_seep_52 : decode cX4_seep 52 = .ok (.aload_n 0, 1) := by decide +kernel
theorem dX4_seep_53 : decode cX4_seep 53 = .ok (.iload_n 1, 1) := by decide +kernel
theorem dX4_seep_54 : decode cX4_seep 54 = .ok (.iload_n 2, 1) := by decide +kernel
theorem dX4_seep_55 : decode cX4_seep 55 = .ok (.bipush 8, 2) := by decide +kernel
theorem dX4_seep_57 : decode cX4_seep 57 = .ok (.invokevirtual 150, 3) := by decide +kernel
theorem dX4_seep_60 : decode cX4_seep 60 = .ok (.goto 4, 3) := by decide +kernel
theorem dX4_seep_63 : decode cX4_seep 63 = .ok (.iconst 0, 1) := by decide +kernel
theorem dX4_seep_64 : decode cX4_seep 64 = .ok (.ireturn, 1) := by decide +kernel
theorem dX4_sell_0 : decode cX4_sell 0 = .ok (.aload_n 0, 1) := by decide +kernel
theorem dX4_sell_1 : decode cX4_sell 1 = .ok (.iconst 0, 1) := by decide +kernel
theorem dX4_sell_2 : decode cX4_sell 2 = .ok (.putfield 88, 3) := by decide +kernel
theorem dX4_sell_5 : decode cX4_sell 5 = .ok (.aload_n 0, 1) := by decide +kernel
theorem dX4_sell_6 : decode cX4_sell 6 = .ok (.aload_n 0, 1) := by decide +kernel
theorem dX4_sell_7 : decode cX4_sell 7 = .ok (.iload_n 1, 1) := by decide +kernel
theorem dX4_sell_8 : decode cX4_sell 8 = .ok (.invokevirtual 162, 3) := by decide +kernel
theorem dX4_sell_11 : decode cX4_sell 11 = .ok (.iconst 1, 1) := by decide +kernel
theorem dX4_sell_12 : decode cX4_sell 12 = .ok (.invokevirtual 105, 3) := by decide +kernel
theorem dX4_sell_15 : decode cX4_sell 15 = .ok (.ifCond .ne 16, 3) := by decide +kernel
theorem dX4_sell_18 : decode cX4_sell 18 = .ok (.aload_n 0, 1) := by decide +kernel
theorem dX4_sell_19 : decode cX4_sell 19 = .ok (.aload_n 0, 1) := by decide +kernel
theorem dX4_sell_20 : decode cX4_sell 20 = .ok (.iload_n 1, 1) := by decide +kernel
theorem dX4_sell_21 : decode cX4_sell 21 = .ok (.invokevirtual 165, 3) := by decide +kernel
theorem dX4_sell_24 : decode cX4_sell 24 = .ok (.iconst 2, 1) := by decide +kernel
theorem dX4_sell_25 : decode cX4_sell 25 = .ok (.invokevirtual 105, 3) := by decide +kernel
theorem dX4_sell_28 : decode cX4_sell 28 = .ok (.ifCond .eq 4, 3) := by decide +kernel
theorem dX4_sell_31 : decode cX4_sell 31 = .ok (.return_, 1) := by decide +kernel
theorem dX4_sell_32 : decode cX4_sell 32 = .ok (.bipush 7, 2) := by decide +kernel
theorem dX4_sell_34 : decode cX4_sell 34 = .ok (.iload_n 1, 1) := by decide +kernel
theorem dX4_sell_35 : decode cX4_sell 35 = .ok (.imul, 1) := by decide +kernel
theorem dX4_sell_36 : decode cX4_sell 36 = .ok (.istore 5, 2) := by decide +kernel
theorem dX4_sell_38 : decode cX4_sell 38 = .ok (.aload_n 0, 1) := by decide +kernel
theorem dX4_sell_39 : decode cX4_sell 39 = .ok (.getfield 45, 3) := by decide +kernel
theorem dX4_sell_42 : decode cX4_sell 42 = .ok (.iload 5, 2) := by decide +kernel
theorem dX4_sell_44 : decode cX4_sell 44 = .ok (.iconst 1, 1) := by decide +kernel
theorem dX4_sell_45 : decode cX4_sell 45 = .ok (.iadd, 1) := by decide +kernel
theorem dX4_sell_46 : decode cX4_sell 46 = .ok (.iaload, 1) := by decide +kernel
theorem dX4_sell_47 : decode cX4_sell 47 = .ok (.istore 6, 2) := by decide +kernel
theorem dX4_sell_49 : decode cX4_sell 49 = .ok (.aload_n 0, 1) := by decide +kernel
theorem dX4_sell_50 : decode cX4_sell 50 = .ok (.getfield 45, 3) := by decide +kernel
theorem dX4_sell_53 : decode cX4_sell 53 = .ok (.iload 5, 2) := by decide +kernel
theorem dX4_sell_55 : decode cX4_sell 55 = .ok (.iconst 2, 1) := by decide +kernel
theorem dX4_sell_56 : decode cX4_sell 56 = .ok (.iadd, 1) := by decide +kernel
theorem dX4_sell_57 : decode cX4_sell 57 = .ok (.iaload, 1) := by decide +kernel
theorem dX4_sell_58 : decode cX4_sell 58 = .ok (.istore 7, 2) := by decide +kernel
theorem dX4_sell_60 : decode cX4_sell 60 = .ok (.aload_n 0, 1) := by decide +kernel
theorem dX4_sell_61 : decode cX4_sell 61 = .ok (.getfield 45, 3) := by decide +kernel
theorem dX4_sell_64 : decode cX4_sell 64 = .ok (.iload 5, 2) := by decide +kernel
theorem dX4_sell_66 : decode cX4_sell 66 = .ok (.iconst 3, 1) := by decide +kernel
theorem dX4_sell_67 : decode cX4_sell 67 = .ok (.iadd, 1) := by decide +kernel
theorem dX4_sell_68 : decode cX4_sell 68 = .ok (.iaload, 1) := by decide +kernel
theorem dX4_sell_69 : decode cX4_sell 69 = .ok (.istore 8, 2) := by decide +kernel
theorem dX4_sell_71 : decode cX4_sell 71 = .ok (.iload 4, 2) := by decide +kernel
theorem dX4_sell_73 : decode cX4_sell 73 = .ok (.invokestatic 168, 3) := by decide +kernel
theorem dX4_sell_76 : decode cX4_sell 76 = .ok (.ifCond .ne 24, 3) := by decide +kernel
theorem dX4_sell_79 : decode cX4_sell 79 = .ok (.iload_n 2, 1) := by decide +kernel
theorem dX4_sell_80 : decode cX4_sell 80 = .ok (.iload 6, 2) := by decide +kernel
theorem dX4_sell_82 : decode cX4_sell 82 = .ok (.if_icmp .lt 18, 3) := by decide +kernel
theorem dX4_sell_85 : decode cX4_sell 85 = .ok (.iload_n 2, 1) := by decide +kernel
theorem dX4_sell_86 : decode cX4_sell 86 = .ok (.iload_n 3, 1) := by decide +kernel
theorem dX4_sell_87 : decode cX4_sell 87 = .ok (.if_icmp .ge 13, 3) := by decide +kernel
theorem dX4_sell_90 : decode cX4_sell 90 = .ok (.iload_n 3, 1) := by decide +kernel
theorem dX4_sell_91 : decode cX4_sell 91 = .ok (.iload 7, 2) := by decide +kernel
theorem dX4_sell_93 : decode cX4_sell 93 = .ok (.if_icmp .gt 7, 3) := by decide +kernel
theorem dX4_sell_96 : decode cX4_sell 96 = .ok (.iconst 1, 1) := by decide +kernel
theorem dX4_sell_97 : decode cX4_sell 97 = .ok (.goto 4, 3) := by decide +kernel
theorem dX4_sell_100 : decode cX4_sell 100 = .ok (.iconst 0, 1) := by decide +kernel
theorem dX4_sell_101 : decode cX4_sell 101 = .ok (.istore 9, 2) := by decide +kernel
theorem dX4_sell_103 : decode cX4_sell 103 = .ok (.iload_n 2, 1) := by decide +kernel
theorem dX4_sell_104 : decode cX4_sell 104 = .ok (.iload 6, 2) := by decide +kernel
theorem dX4_sell_106 : decode cX4_sell 106 = .ok (.if_icmp .le 7, 3) := by decide +kernel
theorem dX4_sell_109 : decode cX4_sell 109 = .ok (.iconst 1, 1) := by decide +kernel
theorem dX4_sell_110 : decode cX4_sell 110 = .ok (.goto 4, 3) := by decide +kernel
theorem dX4_sell_113 : decode cX4_sell 113 = .ok (.iconst 0, 1) := by decide +kernel
theorem dX4_sell_114 : decode cX4_sell 114 = .ok (.iload_n 3, 1) := by decide +kernel
theorem dX4_sell_115 : decode cX4_sell 115 = .ok (.iload 7, 2) := by decide +kernel
theorem dX4_sell_117 : decode cX4_sell 117 = .ok (.if_icmp .ge 7, 3) := by decide +kernel
theorem dX4_sell_120 : decode cX4_sell 120 = .ok (.iconst 1, 1) := by decide +kernel
theorem dX4_sell_121 : decode cX4_sell 121 = .ok (.goto 4, 3) := by decide +kernel
theorem dX4_sell_124 : decode cX4_sell 124 = .ok (.iconst 0, 1) := by decide +kernel
theorem dX4_sell_125 : decode cX4_sell 125 = .ok (.iadd, 1) := by decide +kernel
theorem dX4_sell_126 : decode cX4_sell 126 = .ok (.istore 10, 2) := by decide +kernel
theorem dX4_sell_128 : decode cX4_sell 128 = .ok (.aload_n 0, 1) := by decide +kernel
theorem dX4_sell_129 : decode cX4_sell 129 = .ok (.iload 9, 2) := by decide +kernel
theorem dX4_sell_131 : decode cX4_sell 131 = .ok (.ifCond .ne 7, 3) := by decide +kernel
theorem dX4_sell_134 : decode cX4_sell 134 = .ok (.iconst 1, 1) := by decide +kernel
theorem dX4_sell_135 : decode cX4_sell 135 = .ok (.goto 4, 3) := by decide +kernel
theorem dX4_sell_138 : decode cX4_sell 138 = .ok (.iconst 0, 1) := by decide +kernel
theorem dX4_sell_139 : decode cX4_sell 139 = .ok (.iconst 3, 1) := by decide +kernel
theorem dX4_sell_140 : decode cX4_sell 140 = .ok (.invokevirtual 105, 3) := by decide +kernel
theorem dX4_sell_143 : decode cX4_sell 143 = .ok (.ifCond .ne 28, 3) := by decide +kernel
theorem dX4_sell_146 : decode cX4_sell 146 = .ok (.aload_n 0, 1) := by decide +kernel
theorem dX4_sell_147 : decode cX4_sell 147 = .ok (.aload_n 0, 1) := by decide +kernel
theorem dX4_sell_148 : decode cX4_sell 148 = .ok (.getfield 102, 3) := by decide +kernel
theorem dX4_sell_151 : decode cX4_sell 151 = .ok (.iload 10, 2) := by decide +kernel
theorem dX4_sell_153 : decode cX4_sell 153 = .ok (.iadd, 1) := by decide +kernel
theorem dX4_sell_154 : decode cX4_sell 154 = .ok (.bipush 60, 2) := by decide +kernel
theorem dX4_sell_156 : decode cX4_sell 156 = .ok (.if_icmp .le 7, 3) := by decide +kernel
theorem dX4_sell_159 : decode cX4_sell 159 = .ok (.iconst 1, 1) := by decide +kernel
theorem dX4_sell_160 : decode cX4_sell 160 = .ok (.goto 4, 3) := by decide +kernel
theorem dX4_sell_163 : decode cX4_sell 163 = .ok (.iconst 0, 1) := by decide +kernel
theorem dX4_sell_164 : decode cX4_sell 164 = .ok (.iconst 4, 1) := by decide +kernel
theorem dX4_sell_165 : decode cX4_sell 165 = .ok (.invokevirtual 105, 3) := by decide +kernel
theorem dX4_sell_168 : decode cX4_sell 168 = .ok (.ifCond .eq 4, 3) := by decide +kernel
theorem dX4_sell_171 : decode cX4_sell 171 = .ok (.return_, 1) := by decide +kernel
theorem dX4_sell_172 : decode cX4_sell 172 = .ok (.aload_n 0, 1) := by decide +kernel
theorem dX4_sell_173 : decode cX4_sell 173 = .ok (.iload_n 1, 1) := by decide +kernel
theorem dX4_sell_174 : decode cX4_sell 174 = .ok (.iload_n 2, 1) := by decide +kernel
theorem dX4_sell_175 : decode cX4_sell 175 = .ok (.iload_n 3, 1) := by decide +kernel
theorem dX4_sell_176 : decode cX4_sell 176 = .ok (.iload 4, 2) := by decide +kernel
theorem dX4_sell_178 : decode cX4_sell 178 = .ok (.invokevirtual 156, 3) := by decide +kernel
theorem dX4_sell_181 : decode cX4_sell 181 = .ok (.iload_n 2, 1) := by decide +kernel
theorem dX4_sell_182 : decode cX4_sell 182 = .ok (.iload 6, 2) := by decide +kernel
theorem dX4_sell_184 : decode cX4_sell 184 = .ok (.if_icmp .le 19, 3) := by decide +kernel
theorem dX4_sell_187 : decode cX4_sell 187 = .ok (.aload_n 0, 1) := by decide +kernel
theorem dX4_sell_188 : decode cX4_sell 188 = .ok (.aload_n 0, 1) := by decide +kernel
theorem dX4_sell_189 : decode cX4_sell 189 = .ok (.getfield 45, 3) := by decide +kernel
theorem dX4_sell_192 : decode cX4_sell 192 = .ok (.iload 5, 2) := by decide +kernel
theorem dX4_sell_194 : decode cX4_sell 194 = .ok (.iaload, 1) := by decide +kernel
theorem dX4_sell_195 : decode cX4_sell 195 = .ok (.iload 6, 2) := by decide +kernel
theorem dX4_sell_197 : decode cX4_sell 197 = .ok (.iload_n 2, 1) := by decide +kernel
theorem dX4_sell_198 : decode cX4_sell 198 = .ok (.iload 8, 2) := by decide +kernel
theorem dX4_sell_200 : decode cX4_sell 200 = .ok (.invokevirtual 132, 3) := by decide +kernel
theorem dX4_sell_203 : decode cX4_sell 203 = .ok (.iload_n 3, 1) := by decide +kernel
theorem dX4_sell_204 : decode cX4_sell 204 = .ok (.iload 7, 2) := by decide +kernel
theorem dX4_sell_206 : decode cX4_sell 206 = .ok (.if_icmp .ge 19, 3) := by decide +kernel
theorem dX4_sell_209 : decode cX4_sell 209 = .ok (.aload_n 0, 1) := by decide +kernel
theorem dX4_sell_210 : decode cX4_sell 210 = .ok (.aload_n 0, 1) := by decide +kernel
theorem dX4_sell_211 : decode cX4_sell 211 = .ok (.getfield 45, 3) := by decide +kernel
theorem dX4_sell_214 : decode cX4_sell 214 = .ok (.iload 5, 2) := by decide +kernel
theorem dX4_sell_216 : decode cX4_sell 216 = .ok (.iaload, 1) := by decide +kernel
theorem dX4_sell_217 : decode cX4_sell 217 = .ok (.iload_n 3, 1) := by decide +kernel
theorem dX4_sell_218 : decode cX4_sell 218 = .ok (.iload 7, 2) := by decide +kernel
theorem dX4_sell_220 : decode cX4_sell 220 = .ok (.iload 8, 2) := by decide +kernel
theorem dX4_sell_222 : decode cX4_sell 222 = .ok (.invokevirtual 132, 3) := by decide +kernel
theorem dX4_sell_225 : decode cX4_sell 225 = .ok (.return_, 1) := by decide +kernel
theorem dX4_noShare_0 : decode cX4_noShare 0 = .ok (.iload_n 1, 1) := by decide +kernel
theorem dX4_noShare_1 : decode cX4_noShare 1 = .ok (.iconst 0, 1) := by decide +kernel
theorem dX4_noShare_2 : decode cX4_noShare 2 = .ok (.aload_n 0, 1) := by decide +kernel
theorem dX4_noShare_3 : decode cX4_noShare 3 = .ok (.getfield 102, 3) := by decide +kernel
theorem dX4_noShare_6 : decode cX4_noShare 6 = .ok (.iconst 1, 1) := by decide +kernel
theorem dX4_noShare_7 : decode cX4_noShare 7 = .ok (.isub, 1) := by decide +kernel
theorem dX4_noShare_8 : decode cX4_noShare 8 = .ok (.invokestatic 94, 3) := by decide +kernel
theorem dX4_noShare_11 : decode cX4_noShare 11 = .ok (.ifCond .ne 7, 3) := by decide +kernel
theorem dX4_noShare_14 : decode cX4_noShare 14 = .ok (.iconst 1, 1) := by decide +kernel
theorem dX4_noShare_15 : decode cX4_noShare 15 = .ok (.goto 4, 3) := by decide +kernel
theorem dX4_noShare_18 : decode cX4_noShare 18 = .ok (.iconst 0, 1) := by decide +kernel
theorem dX4_noShare_19 : decode cX4_noShare 19 = .ok (.ireturn, 1) := by decide +kernel
theorem dX4_isLet_0 : decode cX4_isLet 0 = .ok (.aload_n 0, 1) := by decide +kernel
theorem dX4_isLet_1 : decode cX4_isLet 1 = .ok (.getfield 45, 3) := by decide +kernel
theorem dX4_isLet_4 : decode cX4_isLet 4 = .ok (.bipush 7, 2) := by decide +kernel
theorem dX4_isLet_6 : decode cX4_isLet 6 = .ok (.iload_n 1, 1) := by decide +kernel
theorem dX4_isLet_7 : decode cX4_isLet 7 = .ok (.imul, 1) := by decide +kernel
theorem dX4_isLet_8 : decode cX4_isLet 8 = .ok (.bipush 6, 2) := by decide +kernel
theorem dX4_isLet_10 : decode cX4_isLet 10 = .ok (.iadd, 1) := by decide +kernel
theorem dX4_isLet_11 : decode cX4_isLet 11 = .ok (.iaload, 1) := by decide +kernel
theorem dX4_isLet_12 : decode cX4_isLet 12 = .ok (.aload_n 0, 1) := by decide +kernel
theorem dX4_isLet_13 : decode cX4_isLet 13 = .ok (.getfield 159, 3) := by decide +kernel
theorem dX4_isLet_16 : decode cX4_isLet 16 = .ok (.if_icmp .le 7, 3) := by decide +kernel
theorem dX4_isLet_19 : decode cX4_isLet 19 = .ok (.iconst 1, 1) := by decide +kernel
theorem dX4_isLet_20 : decode cX4_isLet 20 = .ok (.goto 4, 3) := by decide +kernel
theorem dX4_isLet_23 : decode cX4_isLet 23 = .ok (.iconst 0, 1) := by decide +kernel
theorem dX4_isLet_24 : decode cX4_isLet 24 = .ok (.ireturn, 1) := by decide +kernel
theorem dX4_noOwner_0 : decode cX4_noOwner 0 = .ok (.iload_n 0, 1) := by decide +kernel
theorem dX4_noOwner_1 : decode cX4_noOwner 1 = .ok (.iconst 0, 1) := by decide +kernel
theorem dX4_noOwner_2 : decode cX4_noOwner 2 = .ok (.bipush 30, 2) := by decide +kernel
theorem dX4_noOwner_4 : decode cX4_noOwner 4 = .ok (.invokestatic 94, 3) := by decide +kernel
theorem dX4_noOwner_7 : decode cX4_noOwner 7 = .ok (.ifCond .ne 7, 3) := by decide +kernel
theorem dX4_noOwner_10 : decode cX4_noOwner 10 = .ok (.iconst 1, 1) := by decide +kernel
theorem dX4_noOwner_11 : decode cX4_noOwner 11 = .ok (.goto 4, 3) := by decide +kernel
theorem dX4_noOwner_14 : decode cX4_noOwner 14 = .ok (.iconst 0, 1) := by decide +kernel
theorem dX4_noOwner_15 : decode cX4_noOwner 15 = .ok (.ireturn, 1) := by decide +kernel
theorem dX4_heirs_0 : decode cX4_heirs 0 = .ok (.aload_n 0, 1) := by decide +kernel
theorem dX4_heirs_1 : decode cX4_heirs 1 = .ok (.iconst 0, 1) := by decide +kernel
theorem dX4_heirs_2 : decode cX4_heirs 2 = .ok (.putfield 88, 3) := by decide +kernel
theorem dX4_heirs_5 : decode cX4_heirs 5 = .ok (.aload_n 0, 1) := by decide +kernel
theorem dX4_heirs_6 : decode cX4_heirs 6 = .ok (.aload_n 0, 1) := by decide +kernel
theorem dX4_heirs_7 : decode cX4_heirs 7 = .ok (.iload_n 1, 1) := by decide +kernel
theorem dX4_heirs_8 : decode cX4_heirs 8 = .ok (.invokevirtual 162, 3) := by decide +kernel
theorem dX4_heirs_11 : decode cX4_heirs 11 = .ok (.iconst 1, 1) := by decide +kernel
theorem dX4_heirs_12 : decode cX4_heirs 12 = .ok (.invokevirtual 105, 3) := by decide +kernel
theorem dX4_heirs_15 : decode cX4_heirs 15 = .ok (.ifCond .ne 16, 3) := by decide +kernel
theorem dX4_heirs_18 : decode cX4_heirs 18 = .ok (.aload_n 0, 1) := by decide +kernel
theorem dX4_heirs_19 : decode cX4_heirs 19 = .ok (.aload_n 0, 1) := by decide +kernel
theorem dX4_heirs_20 : decode cX4_heirs 20 = .ok (.iload_n 1, 1) := by decide +kernel
theorem dX4_heirs_21 : decode cX4_heirs 21 = .ok (.invokevirtual 165, 3) := by decide +kernel
theorem dX4_heirs_24 : decode cX4_heirs 24 = .ok (.iconst 2, 1) := by decide +kernel
theorem dX4_heirs_25 : decode cX4_heirs 25 = .ok (.invokevirtual 105, 3) := by decide +kernel
theorem dX4_heirs_28 : decode cX4_heirs 28 = .ok (.ifCond .eq 5, 3) := by decide +kernel
theorem dX4_heirs_31 : decode cX4_heirs 31 = .ok (.iconst 0, 1) := by decide +kernel
theorem dX4_heirs_32 : decode cX4_heirs 32 = .ok (.ireturn, 1) := by decide +kernel
theorem dX4_heirs_33 : decode cX4_heirs 33 = .ok (.aload_n 0, 1) := by decide +kernel
theorem dX4_heirs_34 : decode cX4_heirs 34 = .ok (.getfield 48, 3) := by decide +kernel
theorem dX4_heirs_37 : decode cX4_heirs 37 = .ok (.iconst 0, 1) := by decide +kernel
theorem dX4_heirs_38 : decode cX4_heirs 38 = .ok (.iload_n 3, 1) := by decide +kernel
theorem dX4_heirs_39 : decode cX4_heirs 39 = .ok (.iastore, 1) := by decide +kernel
theorem dX4_heirs_40 : decode cX4_heirs 40 = .ok (.aload_n 0, 1) := by decide +kernel
theorem dX4_heirs_41 : decode cX4_heirs 41 = .ok (.getfield 48, 3) := by decide +kernel
theorem dX4_heirs_44 : decode cX4_heirs 44 = .ok (.iconst 1, 1) := by decide +kernel
theorem dX4_heirs_45 : decode cX4_heirs 45 = .ok (.iload 5, 2) := by decide +kernel
theorem dX4_heirs_47 : decode cX4_heirs 47 = .ok (.iastore, 1) := by decide +kernel
theorem dX4_heirs_48 : decode cX4_heirs 48 = .ok (.aload_n 0, 1) := by decide +kernel
theorem dX4_heirs_49 : decode cX4_heirs 49 = .ok (.getfield 48, 3) := by decide +kernel
theorem dX4_heirs_52 : decode cX4_heirs 52 = .ok (.iconst 2, 1) := by decide +kernel
theorem dX4_heirs_53 : decode cX4_heirs 53 = .ok (.iload 7, 2) := by decide +kernel
theorem dX4_heirs_55 : decode cX4_heirs 55 = .ok (.iastore, 1) := by decide +kernel
theorem dX4_heirs_56 : decode cX4_heirs 56 = .ok (.aload_n 0, 1) := by decide +kernel
theorem dX4_heirs_57 : decode cX4_heirs 57 = .ok (.getfield 48, 3) := by decide +kernel
theorem dX4_heirs_60 : decode cX4_heirs 60 = .ok (.iconst 3, 1) := by decide +kernel
theorem dX4_heirs_61 : decode cX4_heirs 61 = .ok (.iload 9, 2) := by decide +kernel
theorem dX4_heirs_63 : decode cX4_heirs 63 = .ok (.iastore, 1) := by decide +kernel
theorem dX4_heirs_64 : decode cX4_heirs 64 = .ok (.aload_n 0, 1) := by decide +kernel
theorem dX4_heirs_65 : decode cX4_heirs 65 = .ok (.getfield 51, 3) := by decide +kernel
theorem dX4_heirs_68 : decode cX4_heirs 68 = .ok (.iconst 0, 1) := by decide +kernel
theorem dX4_heirs_69 : decode cX4_heirs 69 = .ok (.iload 4, 2) := by decide +kernel
theorem dX4_heirs_71 : decode cX4_heirs 71 = .ok (.iastore, 1) := by decide +kernel
theorem dX4_heirs_72 : decode cX4_heirs 72 = .ok (.aload_n 0, 1) := by decide +kernel
theorem dX4_heirs_73 : decode cX4_heirs 73 = .ok (.getfield 51, 3) := by decide +kernel
theorem dX4_heirs_76 : decode cX4_heirs 76 = .ok (.iconst 1, 1) := by decide +kernel
theorem dX4_heirs_77 : decode cX4_heirs 77 = .ok (.iload 6, 2) := by decide +kernel
theorem dX4_heirs_79 : decode cX4_heirs 79 = .ok (.iastore, 1) := by decide +kernel
theorem dX4_heirs_80 : decode cX4_heirs 80 = .ok (.aload_n 0, 1) := by decide +kernel
theorem dX4_heirs_81 : decode cX4_heirs 81 = .ok (.getfield 51, 3) := by decide +kernel
theorem dX4_heirs_84 : decode cX4_heirs 84 = .ok (.iconst 2, 1) := by decide +kernel
theorem dX4_heirs_85 : decode cX4_heirs 85 = .ok (.iload 8, 2) := by decide +kernel
theorem dX4_heirs_87 : decode cX4_heirs 87 = .ok (.iastore, 1) := by decide +kernel
theorem dX4_heirs_88 : decode cX4_heirs 88 = .ok (.aload_n 0, 1) := by decide +kernel
theorem dX4_heirs_89 : decode cX4_heirs 89 = .ok (.getfield 51, 3) := by decide +kernel
theorem dX4_heirs_92 : decode cX4_heirs 92 = .ok (.iconst 3, 1) := by decide +kernel
theorem dX4_heirs_93 : decode cX4_heirs 93 = .ok (.iload 10, 2) := by decide +kernel
theorem dX4_heirs_95 : decode cX4_heirs 95 = .ok (.iastore, 1) := by decide +kernel
theorem dX4_heirs_96 : decode cX4_heirs 96 = .ok (.iload_n 2, 1) := by decide +kernel
theorem dX4_heirs_97 : decode cX4_heirs 97 = .ok (.iconst 2, 1) := by decide +kernel
theorem dX4_heirs_98 : decode cX4_heirs 98 = .ok (.iconst 4, 1) := by decide +kernel
theorem dX4_heirs_99 : decode cX4_heirs 99 = .ok (.invokestatic 94, 3) := by decide +kernel
theorem dX4_heirs_102 : decode cX4_heirs 102 = .ok (.istore 11, 2) := by decide +kernel
theorem dX4_heirs_104 : decode cX4_heirs 104 = .ok (.iconst 0, 1) := by decide +kernel
theorem dX4_heirs_105 : decode cX4_heirs 105 = .ok (.istore 12, 2) := by decide +kernel
theorem dX4_heirs_107 : decode cX4_heirs 107 = .ok (.iload 11, 2) := by decide +kernel
theorem dX4_heirs_109 : decode cX4_heirs 109 = .ok (.ifCond .eq 51, 3) := by decide +kernel
theorem dX4_heirs_112 : decode cX4_heirs 112 = .ok (.iload 12, 2) := by decide +kernel
theorem dX4_heirs_114 : decode cX4_heirs 114 = .ok (.iload_n 2, 1) := by decide +kernel
theorem dX4_heirs_115 : decode cX4_heirs 115 = .ok (.if_icmp .ge 45, 3) := by decide +kernel
theorem dX4_heirs_118 : decode cX4_heirs 118 = .ok (.aload_n 0, 1) := by decide +kernel
theorem dX4_heirs_119 : decode cX4_heirs 119 = .ok (.getfield 48, 3) := by decide +kernel
theorem dX4_heirs_122 : decode cX4_heirs 122 = .ok (.iload 12, 2) := by decide +kernel
theorem dX4_heirs_124 : decode cX4_heirs 124 = .ok (.iaload, 1) := by decide +kernel
theorem dX4_heirs_125 : decode cX4_heirs 125 = .ok (.invokestatic 168, 3) := by decide +kernel
theorem dX4_heirs_128 : decode cX4_heirs 128 = .ok (.ifCond .ne 23, 3) := by decide +kernel
theorem dX4_heirs_131 : decode cX4_heirs 131 = .ok (.aload_n 0, 1) := by decide +kernel
theorem dX4_heirs_132 : decode cX4_heirs 132 = .ok (.getfield 51, 3) := by decide +kernel
theorem dX4_heirs_135 : decode cX4_heirs 135 = .ok (.iload 12, 2) := by decide +kernel
theorem dX4_heirs_137 : decode cX4_heirs 137 = .ok (.iaload, 1) := by decide +kernel
theorem dX4_heirs_138 : decode cX4_heirs 138 = .ok (.iconst 1, 1) := by decide +kernel
theorem dX4_heirs_139 : decode cX4_heirs 139 = .ok (.bipush 100, 2) := by decide +kernel
theorem dX4_heirs_141 : decode cX4_heirs 141 = .ok (.invokestatic 94, 3) := by decide +kernel
theorem dX4_heirs_144 : decode cX4_heirs 144 = .ok (.ifCond .eq 7, 3) := by decide +kernel
theorem dX4_heirs_147 : decode cX4_heirs 147 = .ok (.iconst 1, 1) := by decide +kernel
theorem dX4_heirs_148 : decode cX4_heirs 148 = .ok (.goto 4, 3) := by decide +kernel
theorem dX4_heirs_151 : decode cX4_heirs 151 = .ok (.iconst 0, 1) := by decide +kernel
theorem dX4_heirs_152 : decode cX4_heirs 152 = .ok (.istore 11, 2) := by decide +kernel
theorem dX4_heirs_154 : decode cX4_heirs 154 = .ok (.iinc 12 1, 3) := by decide +kernel
theorem dX4_heirs_157 : decode cX4_heirs 157 = .ok (.goto (-50), 3) := by decide +kernel
theorem dX4_heirs_160 : decode cX4_heirs 160 = .ok (.aload_n 0, 1) := by decide +kernel
theorem dX4_heirs_161 : decode cX4_heirs 161 = .ok (.iload 11, 2) := by decide +kernel
theorem dX4_heirs_163 : decode cX4_heirs 163 = .ok (.ifCond .ne 7, 3) := by decide +kernel
theorem dX4_heirs_166 : decode cX4_heirs 166 = .ok (.iconst 1, 1) := by decide +kernel
theorem dX4_heirs_167 : decode cX4_heirs 167 = .ok (.goto 4, 3) := by decide +kernel
theorem dX4_heirs_170 : decode cX4_heirs 170 = .ok (.iconst 0, 1) := by decide +kernel
theorem dX4_heirs_171 : decode cX4_heirs 171 = .ok (.iconst 3, 1) := by decide +kernel
theorem dX4_heirs_172 : decode cX4_heirs 172 = .ok (.invokevirtual 105, 3) := by decide +kernel
theorem dX4_heirs_175 : decode cX4_heirs 175 = .ok (.ifCond .eq 5, 3) := by decide +kernel
theorem dX4_heirs_178 : decode cX4_heirs 178 = .ok (.iconst 0, 1) := by decide +kernel
theorem dX4_heirs_179 : decode cX4_heirs 179 = .ok (.ireturn, 1) := by decide +kernel
theorem dX4_heirs_180 : decode cX4_heirs 180 = .ok (.bipush 7, 2) := by decide +kernel
theorem dX4_heirs_182 : decode cX4_heirs 182 = .ok (.iload_n 1, 1) := by decide +kernel
theorem dX4_heirs_183 : decode cX4_heirs 183 = .ok (.imul, 1) := by decide +kernel
theorem dX4_heirs_184 : decode cX4_heirs 184 = .ok (.istore 12, 2) := by decide +kernel
theorem dX4_heirs_186 : decode cX4_heirs 186 = .ok (.aload_n 0, 1) := by decide +kernel
theorem dX4_heirs_187 : decode cX4_heirs 187 = .ok (.getfield 45, 3) := by decide +kernel
theorem dX4_heirs_190 : decode cX4_heirs 190 = .ok (.iload 12, 2) := by decide +kernel
theorem dX4_heirs_192 : decode cX4_heirs 192 = .ok (.iconst 1, 1) := by decide +kernel
theorem dX4_heirs_193 : decode cX4_heirs 193 = .ok (.iadd, 1) := by decide +kernel
theorem dX4_heirs_194 : decode cX4_heirs 194 = .ok (.iaload, 1) := by decide +kernel
theorem dX4_heirs_195 : decode cX4_heirs 195 = .ok (.istore 13, 2) := by decide +kernel
theorem dX4_heirs_197 : decode cX4_heirs 197 = .ok (.aload_n 0, 1) := by decide +kernel
theorem dX4_heirs_198 : decode cX4_heirs 198 = .ok (.getfield 45, 3) := by decide +kernel
theorem dX4_heirs_201 : decode cX4_heirs 201 = .ok (.iload 12, 2) := by decide +kernel
theorem dX4_heirs_203 : decode cX4_heirs 203 = .ok (.iconst 2, 1) := by decide +kernel
theorem dX4_heirs_204 : decode cX4_heirs 204 = .ok (.iadd, 1) := by decide +kernel
theorem dX4_heirs_205 : decode cX4_heirs 205 = .ok (.iaload, 1) := by decide +kernel
theorem dX4_heirs_206 : decode cX4_heirs 206 = .ok (.iload 13, 2) := by decide +kernel
theorem dX4_heirs_208 : decode cX4_heirs 208 = .ok (.isub, 1) := by decide +kernel
theorem dX4_heirs_209 : decode cX4_heirs 209 = .ok (.istore 14, 2) := by decide +kernel
theorem dX4_heirs_211 : decode cX4_heirs 211 = .ok (.iconst 0, 1) := by decide +kernel
theorem dX4_heirs_212 : decode cX4_heirs 212 = .ok (.istore 15, 2) := by decide +kernel
theorem dX4_heirs_214 : decode cX4_heirs 214 = .ok (.iconst 0, 1) := by decide +kernel
theorem dX4_heirs_215 : decode cX4_heirs 215 = .ok (.istore 16, 2) := by decide +kernel
theorem dX4_heirs_217 : decode cX4_heirs 217 = .ok (.iload 16, 2) := by decide +kernel
theorem dX4_heirs_219 : decode cX4_heirs 219 = .ok (.iload_n 2, 1) := by decide +kernel
theorem dX4_heirs_220 : decode cX4_heirs 220 = .ok (.if_icmp .ge 21, 3) := by decide +kernel
theorem dX4_heirs_223 : decode cX4_heirs 223 = .ok (.iload 15, 2) := by decide +kernel
theorem dX4_heirs_225 : decode cX4_heirs 225 = .ok (.aload_n 0, 1) := by decide +kernel
theorem dX4_heirs_226 : decode cX4_heirs 226 = .ok (.getfield 51, 3) := by decide +kernel
theorem dX4_heirs_229 : decode cX4_heirs 229 = .ok (.iload 16, 2) := by decide +kernel
theorem dX4_heirs_231 : decode cX4_heirs 231 = .ok (.iaload, 1) := by decide +kernel
theorem dX4_heirs_232 : decode cX4_heirs 232 = .ok (.iadd, 1) := by decide +kernel
theorem dX4_heirs_233 : decode cX4_heirs 233 = .ok (.istore 15, 2) := by decide +kernel
theorem dX4_heirs_235 : decode cX4_heirs 235 = .ok (.iinc 16 1, 3) := by decide +kernel
theorem dX4_heirs_238 : decode cX4_heirs 238 = .ok (.goto (-21), 3) := by decide +kernel
theorem dX4_heirs_241 : decode cX4_heirs 241 = .ok (.iload 14, 2) := by decide +kernel
theorem dX4_heirs_243 : decode cX4_heirs 243 = .ok (.istore 16, 2) := by decide +kernel
theorem dX4_heirs_245 : decode cX4_heirs 245 = .ok (.iconst 0, 1) := by decide +kernel
theorem dX4_heirs_246 : decode cX4_heirs 246 = .ok (.istore 17, 2) := by decide +kernel
theorem dX4_heirs_248 : decode cX4_heirs 248 = .ok (.iload 17, 2) := by decide +kernel
theorem dX4_heirs_250 : decode cX4_heirs 250 = .ok (.iload_n 2, 1) := by decide +kernel
theorem dX4_heirs_251 : decode cX4_heirs 251 = .ok (.if_icmp .ge 41, 3) := by decide +kernel
theorem dX4_heirs_254 : decode cX4_heirs 254 = .ok (.aload_n 0, 1) := by decide +kernel
theorem dX4_heirs_255 : decode cX4_heirs 255 = .ok (.getfield 54, 3) := by decide +kernel
theorem dX4_heirs_258 : decode cX4_heirs 258 = .ok (.iload 17, 2) := by decide +kernel
theorem dX4_heirs_260 : decode cX4_heirs 260 = .ok (.iload 14, 2) := by decide +kernel
theorem dX4_heirs_262 : decode cX4_heirs 262 = .ok (.aload_n 0, 1) := by decide +kernel
theorem dX4_heirs_263 : decode cX4_heirs 263 = .ok (.getfield 51, 3) := by decide +kernel
theorem dX4_heirs_266 : decode cX4_heirs 266 = .ok (.iload 17, 2) := by decide +kernel
theorem dX4_heirs_268 : decode cX4_heirs 268 = .ok (.iaload, 1) := by decide +kernel
theorem dX4_heirs_269 : decode cX4_heirs 269 = .ok (.imul, 1) := by decide +kernel
theorem dX4_heirs_270 : decode cX4_heirs 270 = .ok (.iload 15, 2) := by decide +kernel
theorem dX4_heirs_272 : decode cX4_heirs 272 = .ok (.idiv, 1) := by decide +kernel
theorem dX4_heirs_273 : decode cX4_heirs 273 = .ok (.iastore, 1) := by decide +kernel
theorem dX4_heirs_274 : decode cX4_heirs 274 = .ok (.iload 16, 2) := by decide +kernel
theorem dX4_heirs_276 : decode cX4_heirs 276 = .ok (.aload_n 0, 1) := by decide +kernel
theorem dX4_heirs_277 : decode cX4_heirs 277 = .ok (.getfield 54, 3) := by decide +kernel
theorem dX4_heirs_280 : decode cX4_heirs 280 = .ok (.iload 17, 2) := by decide +kernel
theorem dX4_heirs_282 : decode cX4_heirs 282 = .ok (.iaload, 1) := by decide +kernel
theorem dX4_heirs_283 : decode cX4_heirs 283 = .ok (.isub, 1) := by decide +kernel
theorem dX4_heirs_284 : decode cX4_heirs 284 = .ok (.istore 16, 2) := by decide +kernel
theorem dX4_heirs_286 : decode cX4_heirs 286 = .ok (.iinc 17 1, 3) := by decide +kernel
theorem dX4_heirs_289 : decode cX4_heirs 289 = .ok (.goto (-41), 3) := by decide +kernel
theorem dX4_heirs_292 : decode cX4_heirs 292 = .ok (.iconst 0, 1) := by decide +kernel
theorem dX4_heirs_293 : decode cX4_heirs 293 = .ok (.istore 17, 2) := by decide +kernel
theorem dX4_heirs_295 : decode cX4_heirs 295 = .ok (.iconst 0, 1) := by decide +kernel
theorem dX4_heirs_296 : decode cX4_heirs 296 = .ok (.istore 18, 2) := by decide +kernel
theorem dX4_heirs_298 : decode cX4_heirs 298 = .ok (.iload 18, 2) := by decide +kernel
theorem dX4_heirs_300 : decode cX4_heirs 300 = .ok (.iload_n 2, 1) := by decide +kernel
theorem dX4_heirs_301 : decode cX4_heirs 301 = .ok (.if_icmp .ge 51, 3) := by decide +kernel
theorem dX4_heirs_304 : decode cX4_heirs 304 = .ok (.aload_n 0, 1) := by decide +kernel
theorem dX4_heirs_305 : decode cX4_heirs 305 = .ok (.getfield 54, 3) := by decide +kernel
theorem dX4_heirs_308 : decode cX4_heirs 308 = .ok (.iload 18, 2) := by decide +kernel
theorem dX4_heirs_310 : decode cX4_heirs 310 = .ok (.dup2, 1) := by decide +kernel
theorem dX4_heirs_311 : decode cX4_heirs 311 = .ok (.iaload, 1) := by decide +kernel
theorem dX4_heirs_312 : decode cX4_heirs 312 = .ok (.iload 18, 2) := by decide +kernel
theorem dX4_heirs_314 : decode cX4_heirs 314 = .ok (.iload 16, 2) := by decide +kernel
theorem dX4_heirs_316 : decode cX4_heirs 316 = .ok (.if_icmp .ge 7, 3) := by decide +kernel
theorem dX4_heirs_319 : decode cX4_heirs 319 = .ok (.iconst 1, 1) := by decide +kernel
theorem dX4_heirs_320 : decode cX4_heirs 320 = .ok (.goto 4, 3) := by decide +kernel
theorem dX4_heirs_323 : decode cX4_heirs 323 = .ok (.iconst 0, 1) := by decide +kernel
theorem dX4_heirs_324 : decode cX4_heirs 324 = .ok (.iadd, 1) := by decide +kernel
theorem dX4_heirs_325 : decode cX4_heirs 325 = .ok (.iastore, 1) := by decide +kernel
theorem dX4_heirs_326 : decode cX4_heirs 326 = .ok (.iload 17, 2) := by decide +kernel
theorem dX4_heirs_328 : decode cX4_heirs 328 = .ok (.aload_n 0, 1) := by decide +kernel
theorem dX4_heirs_329 : decode cX4_heirs 329 = .ok (.getfield 54, 3) := by decide +kernel
theorem dX4_heirs_332 : decode cX4_heirs 332 = .ok (.iload 18, 2) := by decide +kernel
theorem dX4_heirs_334 : decode cX4_heirs 334 = .ok (.iaload, 1) := by decide +kernel
theorem dX4_heirs_335 : decode cX4_heirs 335 = .ok (.ifCond .le 7, 3) := by decide +kernel
theorem dX4_heirs_338 : decode cX4_heirs 338 = .ok (.iconst 1, 1) := by decide +kernel
theorem dX4_heirs_339 : decode cX4_heirs 339 = .ok (.goto 4, 3) := by decide +kernel
theorem dX4_heirs_342 : decode cX4_heirs 342 = .ok (.iconst 0, 1) := by decide +kernel
theorem dX4_heirs_343 : decode cX4_heirs 343 = .ok (.iadd, 1) := by decide +kernel
theorem dX4_heirs_344 : decode cX4_heirs 344 = .ok (.istore 17, 2) := by decide +kernel
theorem dX4_heirs_346 : decode cX4_heirs 346 = .ok (.iinc 18 1, 3) := by decide +kernel
theorem dX4_heirs_349 : decode cX4_heirs 349 = .ok (.goto (-51), 3) := by decide +kernel
theorem dX4_heirs_352 : decode cX4_heirs 352 = .ok (.aload_n 0, 1) := by decide +kernel
theorem dX4_heirs_353 : decode cX4_heirs 353 = .ok (.aload_n 0, 1) := by decide +kernel
theorem dX4_heirs_354 : decode cX4_heirs 354 = .ok (.getfield 102, 3) := by decide +kernel
theorem dX4_heirs_357 : decode cX4_heirs 357 = .ok (.iload 17, 2) := by decide +kernel
theorem dX4_heirs_359 : decode cX4_heirs 359 = .ok (.iadd, 1) := by decide +kernel
theorem dX4_heirs_360 : decode cX4_heirs 360 = .ok (.iconst 1, 1) := by decide +kernel
theorem dX4_heirs_361 : decode cX4_heirs 361 = .ok (.isub, 1) := by decide +kernel
theorem dX4_heirs_362 : decode cX4_heirs 362 = .ok (.bipush 60, 2) := by decide +kernel
theorem dX4_heirs_364 : decode cX4_heirs 364 = .ok (.if_icmp .le 7, 3) := by decide +kernel
theorem dX4_heirs_367 : decode cX4_heirs 367 = .ok (.iconst 1, 1) := by decide +kernel
theorem dX4_heirs_368 : decode cX4_heirs 368 = .ok (.goto 4, 3) := by decide +kernel
theorem dX4_heirs_371 : decode cX4_heirs 371 = .ok (.iconst 0, 1) := by decide +kernel
theorem dX4_heirs_372 : decode cX4_heirs 372 = .ok (.iconst 4, 1) := by decide +kernel
theorem dX4_heirs_373 : decode cX4_heirs 373 = .ok (.invokevirtual 105, 3) := by decide +kernel
theorem dX4_heirs_376 : decode cX4_heirs 376 = .ok (.ifCond .eq 5, 3) := by decide +kernel
theorem dX4_heirs_379 : decode cX4_heirs 379 = .ok (.iconst 0, 1) := by decide +kernel
theorem dX4_heirs_380 : decode cX4_heirs 380 = .ok (.ireturn, 1) := by decide +kernel
theorem dX4_heirs_381 : decode cX4_heirs 381 = .ok (.iconst 1, 1) := by decide +kernel
theorem dX4_heirs_382 : decode cX4_heirs 382 = .ok (.istore 18, 2) := by decide +kernel
theorem dX4_heirs_384 : decode cX4_heirs 384 = .ok (.iconst 0, 1) := by decide +kernel
theorem dX4_heirs_385 : decode cX4_heirs 385 = .ok (.istore 19, 2) := by decide +kernel
theorem dX4_heirs_387 : decode cX4_heirs 387 = .ok (.iload 19, 2) := by decide +kernel
theorem dX4_heirs_389 : decode cX4_heirs 389 = .ok (.iload_n 2, 1) := by decide +kernel
theorem dX4_heirs_390 : decode cX4_heirs 390 = .ok (.if_icmp .ge 99, 3) := by decide +kernel
theorem dX4_heirs_393 : decode cX4_heirs 393 = .ok (.aload_n 0, 1) := by decide +kernel
theorem dX4_heirs_394 : decode cX4_heirs 394 = .ok (.getfield 54, 3) := by decide +kernel
theorem dX4_heirs_397 : decode cX4_heirs 397 = .ok (.iload 19, 2) := by decide +kernel
theorem dX4_heirs_399 : decode cX4_heirs 399 = .ok (.iaload, 1) := by decide +kernel
theorem dX4_heirs_400 : decode cX4_heirs 400 = .ok (.ifCond .ne 6, 3) := by decide +kernel
theorem dX4_heirs_403 : decode cX4_heirs 403 = .ok (.goto 80, 3) := by decide +kernel
theorem dX4_heirs_406 : decode cX4_heirs 406 = .ok (.iload 18, 2) := by decide +kernel
theorem dX4_heirs_408 : decode cX4_heirs 408 = .ok (.ifCond .eq 30, 3) := by decide +kernel
theorem dX4_heirs_411 : decode cX4_heirs 411 = .ok (.aload_n 0, 1) := by decide +kernel
theorem dX4_heirs_412 : decode cX4_heirs 412 = .ok (.iload_n 1, 1) := by decide +kernel
theorem dX4_heirs_413 : decode cX4_heirs 413 = .ok (.iload 13, 2) := by decide +kernel
theorem dX4_heirs_415 : decode cX4_heirs 415 = .ok (.iload 13, 2) := by decide +kernel
theorem dX4_heirs_417 : decode cX4_heirs 417 = .ok (.aload_n 0, 1) := by decide +kernel
theorem dX4_heirs_418 : decode cX4_heirs 418 = .ok (.getfield 54, 3) := by decide +kernel
theorem dX4_heirs_421 : decode cX4_heirs 421 = .ok (.iload 19, 2) := by decide +kernel
theorem dX4_heirs_423 : decode cX4_heirs 423 = .ok (.iaload, 1) := by decide +kernel
theorem dX4_heirs_424 : decode cX4_heirs 424 = .ok (.iadd, 1) := by decide +kernel
theorem dX4_heirs_425 : decode cX4_heirs 425 = .ok (.aload_n 0, 1) := by decide +kernel
theorem dX4_heirs_426 : decode cX4_heirs 426 = .ok (.getfield 48, 3) := by decide +kernel
theorem dX4_heirs_429 : decode cX4_heirs 429 = .ok (.iload 19, 2) := by decide +kernel
theorem dX4_heirs_431 : decode cX4_heirs 431 = .ok (.iaload, 1) := by decide +kernel
theorem dX4_heirs_432 : decode cX4_heirs 432 = .ok (.invokevirtual 156, 3) := by decide +kernel
theorem dX4_heirs_435 : decode cX4_heirs 435 = .ok (.goto 33, 3) := by decide +kernel
theorem dX4_heirs_438 : decode cX4_heirs 438 = .ok (.aload_n 0, 1) := by decide +kernel
theorem dX4_heirs_439 : decode cX4_heirs 439 = .ok (.aload_n 0, 1) := by decide +kernel
theorem dX4_heirs_440 : decode cX4_heirs 440 = .ok (.getfield 45, 3) := by decide +kernel
theorem dX4_heirs_443 : decode cX4_heirs 443 = .ok (.iload 12, 2) := by decide +kernel
theorem dX4_heirs_445 : decode cX4_heirs 445 = .ok (.iaload, 1) := by decide +kernel
