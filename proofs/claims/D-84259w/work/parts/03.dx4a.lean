set_option maxRecDepth 100000
theorem dX4_init_0 : decode cX4_init 0 = .ok (.aload_n 0, 1) := by decide +kernel
theorem dX4_init_1 : decode cX4_init 1 = .ok (.invokespecial 1, 3) := by decide +kernel
theorem dX4_init_4 : decode cX4_init 4 = .ok (.aload_n 0, 1) := by decide +kernel
theorem dX4_init_5 : decode cX4_init 5 = .ok (.sipush 500, 3) := by decide +kernel
theorem dX4_init_8 : decode cX4_init 8 = .ok (.putfield 7, 3) := by decide +kernel
theorem dX4_init_11 : decode cX4_init 11 = .ok (.aload_n 0, 1) := by decide +kernel
theorem dX4_init_12 : decode cX4_init 12 = .ok (.iconst 2, 1) := by decide +kernel
theorem dX4_init_13 : decode cX4_init 13 = .ok (.putfield 13, 3) := by decide +kernel
theorem dX4_init_16 : decode cX4_init 16 = .ok (.aload_n 0, 1) := by decide +kernel
theorem dX4_init_17 : decode cX4_init 17 = .ok (.bipush 8, 2) := by decide +kernel
theorem dX4_init_19 : decode cX4_init 19 = .ok (.newarray .int, 2) := by decide +kernel
theorem dX4_init_21 : decode cX4_init 21 = .ok (.putfield 16, 3) := by decide +kernel
theorem dX4_init_24 : decode cX4_init 24 = .ok (.aload_n 0, 1) := by decide +kernel
theorem dX4_init_25 : decode cX4_init 25 = .ok (.bipush 8, 2) := by decide +kernel
theorem dX4_init_27 : decode cX4_init 27 = .ok (.newarray .boolean, 2) := by decide +kernel
theorem dX4_init_29 : decode cX4_init 29 = .ok (.putfield 20, 3) := by decide +kernel
theorem dX4_init_32 : decode cX4_init 32 = .ok (.aload_n 0, 1) := by decide +kernel
theorem dX4_init_33 : decode cX4_init 33 = .ok (.bipush 8, 2) := by decide +kernel
theorem dX4_init_35 : decode cX4_init 35 = .ok (.newarray .int, 2) := by decide +kernel
theorem dX4_init_37 : decode cX4_init 37 = .ok (.putfield 24, 3) := by decide +kernel
theorem dX4_init_40 : decode cX4_init 40 = .ok (.aload_n 0, 1) := by decide +kernel
theorem dX4_init_41 : decode cX4_init 41 = .ok (.bipush 8, 2) := by decide +kernel
theorem dX4_init_43 : decode cX4_init 43 = .ok (.newarray .int, 2) := by decide +kernel
theorem dX4_init_45 : decode cX4_init 45 = .ok (.putfield 27, 3) := by decide +kernel
theorem dX4_init_48 : decode cX4_init 48 = .ok (.aload_n 0, 1) := by decide +kernel
theorem dX4_init_49 : decode cX4_init 49 = .ok (.bipush 8, 2) := by decide +kernel
theorem dX4_init_51 : decode cX4_init 51 = .ok (.newarray .int, 2) := by decide +kernel
theorem dX4_init_53 : decode cX4_init 53 = .ok (.putfield 30, 3) := by decide +kernel
theorem dX4_init_56 : decode cX4_init 56 = .ok (.aload_n 0, 1) := by decide +kernel
theorem dX4_init_57 : decode cX4_init 57 = .ok (.sipush 160, 3) := by decide +kernel
theorem dX4_init_60 : decode cX4_init 60 = .ok (.newarray .int, 2) := by decide +kernel
theorem dX4_init_62 : decode cX4_init 62 = .ok (.putfield 33, 3) := by decide +kernel
theorem dX4_init_65 : decode cX4_init 65 = .ok (.aload_n 0, 1) := by decide +kernel
theorem dX4_init_66 : decode cX4_init 66 = .ok (.sipush 160, 3) := by decide +kernel
theorem dX4_init_69 : decode cX4_init 69 = .ok (.newarray .int, 2) := by decide +kernel
theorem dX4_init_71 : decode cX4_init 71 = .ok (.putfield 36, 3) := by decide +kernel
theorem dX4_init_74 : decode cX4_init 74 = .ok (.aload_n 0, 1) := by decide +kernel
theorem dX4_init_75 : decode cX4_init 75 = .ok (.sipush 160, 3) := by decide +kernel
theorem dX4_init_78 : decode cX4_init 78 = .ok (.newarray .int, 2) := by decide +kernel
theorem dX4_init_80 : decode cX4_init 80 = .ok (.putfield 39, 3) := by decide +kernel
theorem dX4_init_83 : decode cX4_init 83 = .ok (.aload_n 0, 1) := by decide +kernel
theorem dX4_init_84 : decode cX4_init 84 = .ok (.sipush 160, 3) := by decide +kernel
theorem dX4_init_87 : decode cX4_init 87 = .ok (.newarray .boolean, 2) := by decide +kernel
theorem dX4_init_89 : decode cX4_init 89 = .ok (.putfield 42, 3) := by decide +kernel
theorem dX4_init_92 : decode cX4_init 92 = .ok (.aload_n 0, 1) := by decide +kernel
theorem dX4_init_93 : decode cX4_init 93 = .ok (.sipush 420, 3) := by decide +kernel
theorem dX4_init_96 : decode cX4_init 96 = .ok (.newarray .int, 2) := by decide +kernel
theorem dX4_init_98 : decode cX4_init 98 = .ok (.putfield 45, 3) := by decide +kernel
theorem dX4_init_101 : decode cX4_init 101 = .ok (.aload_n 0, 1) := by decide +kernel
theorem dX4_init_102 : decode cX4_init 102 = .ok (.iconst 4, 1) := by decide +kernel
theorem dX4_init_103 : decode cX4_init 103 = .ok (.newarray .int, 2) := by decide +kernel
theorem dX4_init_105 : decode cX4_init 105 = .ok (.putfield 48, 3) := by decide +kernel
theorem dX4_init_108 : decode cX4_init 108 = .ok (.aload_n 0, 1) := by decide +kernel
theorem dX4_init_109 : decode cX4_init 109 = .ok (.iconst 4, 1) := by decide +kernel
theorem dX4_init_110 : decode cX4_init 110 = .ok (.newarray .int, 2) := by decide +kernel
theorem dX4_init_112 : decode cX4_init 112 = .ok (.putfield 51, 3) := by decide +kernel
theorem dX4_init_115 : decode cX4_init 115 = .ok (.aload_n 0, 1) := by decide +kernel
theorem dX4_init_116 : decode cX4_init 116 = .ok (.iconst 4, 1) := by decide +kernel
theorem dX4_init_117 : decode cX4_init 117 = .ok (.newarray .int, 2) := by decide +kernel
theorem dX4_init_119 : decode cX4_init 119 = .ok (.putfield 54, 3) := by decide +kernel
theorem dX4_init_122 : decode cX4_init 122 = .ok (.aload_n 0, 1) := by decide +kernel
theorem dX4_init_123 : decode cX4_init 123 = .ok (.iconst 4, 1) := by decide +kernel
theorem dX4_init_124 : decode cX4_init 124 = .ok (.newarray .int, 2) := by decide +kernel
theorem dX4_init_126 : decode cX4_init 126 = .ok (.putfield 57, 3) := by decide +kernel
theorem dX4_init_129 : decode cX4_init 129 = .ok (.aload_n 0, 1) := by decide +kernel
theorem dX4_init_130 : decode cX4_init 130 = .ok (.iconst 4, 1) := by decide +kernel
theorem dX4_init_131 : decode cX4_init 131 = .ok (.newarray .int, 2) := by decide +kernel
theorem dX4_init_133 : decode cX4_init 133 = .ok (.putfield 60, 3) := by decide +kernel
theorem dX4_init_136 : decode cX4_init 136 = .ok (.aload_n 0, 1) := by decide +kernel
theorem dX4_init_137 : decode cX4_init 137 = .ok (.sipush 400, 3) := by decide +kernel
theorem dX4_init_140 : decode cX4_init 140 = .ok (.newarray .byte, 2) := by decide +kernel
theorem dX4_init_142 : decode cX4_init 142 = .ok (.putfield 63, 3) := by decide +kernel
theorem dX4_init_145 : decode cX4_init 145 = .ok (.aload_n 0, 1) := by decide +kernel
theorem dX4_init_146 : decode cX4_init 146 = .ok (.iconst (-1), 1) := by decide +kernel
theorem dX4_init_147 : decode cX4_init 147 = .ok (.putfield 67, 3) := by decide +kernel
theorem dX4_init_150 : decode cX4_init 150 = .ok (.aload_n 0, 1) := by decide +kernel
theorem dX4_init_151 : decode cX4_init 151 = .ok (.iconst 5, 1) := by decide +kernel
theorem dX4_init_152 : decode cX4_init 152 = .ok (.newarray .int, 2) := by decide +kernel
theorem dX4_init_154 : decode cX4_init 154 = .ok (.putfield 70, 3) := by decide +kernel
theorem dX4_init_157 : decode cX4_init 157 = .ok (.aload_n 0, 1) := by decide +kernel
theorem dX4_init_158 : decode cX4_init 158 = .ok (.bipush 31, 2) := by decide +kernel
theorem dX4_init_160 : decode cX4_init 160 = .ok (.newarray .int, 2) := by decide +kernel
theorem dX4_init_162 : decode cX4_init 162 = .ok (.putfield 73, 3) := by decide +kernel
theorem dX4_init_165 : decode cX4_init 165 = .ok (.aload_n 0, 1) := by decide +kernel
theorem dX4_init_166 : decode cX4_init 166 = .ok (.bipush 9, 2) := by decide +kernel
theorem dX4_init_168 : decode cX4_init 168 = .ok (.newarray .int, 2) := by decide +kernel
theorem dX4_init_170 : decode cX4_init 170 = .ok (.putfield 76, 3) := by decide +kernel
theorem dX4_init_173 : decode cX4_init 173 = .ok (.aload_n 0, 1) := by decide +kernel
theorem dX4_init_174 : decode cX4_init 174 = .ok (.bipush 9, 2) := by decide +kernel
theorem dX4_init_176 : decode cX4_init 176 = .ok (.newarray .int, 2) := by decide +kernel
theorem dX4_init_178 : decode cX4_init 178 = .ok (.putfield 79, 3) := by decide +kernel
theorem dX4_init_181 : decode cX4_init 181 = .ok (.aload_n 0, 1) := by decide +kernel
theorem dX4_init_182 : decode cX4_init 182 = .ok (.bipush 9, 2) := by decide +kernel
theorem dX4_init_184 : decode cX4_init 184 = .ok (.newarray .int, 2) := by decide +kernel
theorem dX4_init_186 : decode cX4_init 186 = .ok (.putfield 82, 3) := by decide +kernel
theorem dX4_init_189 : decode cX4_init 189 = .ok (.aload_n 0, 1) := by decide +kernel
theorem dX4_init_190 : decode cX4_init 190 = .ok (.sipush 512, 3) := by decide +kernel
theorem dX4_init_193 : decode cX4_init 193 = .ok (.newarray .int, 2) := by decide +kernel
theorem dX4_init_195 : decode cX4_init 195 = .ok (.putfield 85, 3) := by decide +kernel
theorem dX4_init_198 : decode cX4_init 198 = .ok (.return_, 1) := by decide +kernel
theorem dX4_thrown_0 : decode cX4_thrown 0 = .ok (.aload_n 0, 1) := by decide +kernel
theorem dX4_thrown_1 : decode cX4_thrown 1 = .ok (.getfield 88, 3) := by decide +kernel
theorem dX4_thrown_4 : decode cX4_thrown 4 = .ok (.ireturn, 1) := by decide +kernel
theorem dX4_ground_0 : decode cX4_ground 0 = .ok (.aload_n 0, 1) := by decide +kernel
theorem dX4_ground_1 : decode cX4_ground 1 = .ok (.iconst 0, 1) := by decide +kernel
theorem dX4_ground_2 : decode cX4_ground 2 = .ok (.putfield 88, 3) := by decide +kernel
theorem dX4_ground_5 : decode cX4_ground 5 = .ok (.aload_n 0, 1) := by decide +kernel
theorem dX4_ground_6 : decode cX4_ground 6 = .ok (.iload_n 1, 1) := by decide +kernel
theorem dX4_ground_7 : decode cX4_ground 7 = .ok (.iconst 0, 1) := by decide +kernel
theorem dX4_ground_8 : decode cX4_ground 8 = .ok (.sipush 2000, 3) := by decide +kernel
theorem dX4_ground_11 : decode cX4_ground 11 = .ok (.invokestatic 94, 3) := by decide +kernel
theorem dX4_ground_14 : decode cX4_ground 14 = .ok (.ifCond .eq 13, 3) := by decide +kernel
theorem dX4_ground_17 : decode cX4_ground 17 = .ok (.iload_n 2, 1) := by decide +kernel
theorem dX4_ground_18 : decode cX4_ground 18 = .ok (.iconst 0, 1) := by decide +kernel
theorem dX4_ground_19 : decode cX4_ground 19 = .ok (.bipush 20, 2) := by decide +kernel
theorem dX4_ground_21 : decode cX4_ground 21 = .ok (.invokestatic 94, 3) := by decide +kernel
theorem dX4_ground_24 : decode cX4_ground 24 = .ok (.ifCond .ne 7, 3) := by decide +kernel
theorem dX4_ground_27 : decode cX4_ground 27 = .ok (.iconst 1, 1) := by decide +kernel
theorem dX4_ground_28 : decode cX4_ground 28 = .ok (.goto 4, 3) := by decide +kernel
theorem dX4_ground_31 : decode cX4_ground 31 = .ok (.iconst 0, 1) := by decide +kernel
theorem dX4_ground_32 : decode cX4_ground 32 = .ok (.iconst 1, 1) := by decide +kernel
theorem dX4_ground_33 : decode cX4_ground 33 = .ok (.invokevirtual 105, 3) := by decide +kernel
theorem dX4_ground_36 : decode cX4_ground 36 = .ok (.ifCond .eq 4, 3) := by decide +kernel
theorem dX4_ground_39 : decode cX4_ground 39 = .ok (.return_, 1) := by decide +kernel
theorem dX4_ground_40 : decode cX4_ground 40 = .ok (.aload_n 0, 1) := by decide +kernel
theorem dX4_ground_41 : decode cX4_ground 41 = .ok (.iload_n 1, 1) := by decide +kernel
theorem dX4_ground_42 : decode cX4_ground 42 = .ok (.putfield 7, 3) := by decide +kernel
theorem dX4_ground_45 : decode cX4_ground 45 = .ok (.aload_n 0, 1) := by decide +kernel
theorem dX4_ground_46 : decode cX4_ground 46 = .ok (.iload_n 2, 1) := by decide +kernel
theorem dX4_ground_47 : decode cX4_ground 47 = .ok (.putfield 13, 3) := by decide +kernel
theorem dX4_ground_50 : decode cX4_ground 50 = .ok (.return_, 1) := by decide +kernel
theorem dX4_in_0 : decode cX4_in 0 = .ok (.iload_n 0, 1) := by decide +kernel
theorem dX4_in_1 : decode cX4_in 1 = .ok (.iload_n 1, 1) := by decide +kernel
theorem dX4_in_2 : decode cX4_in 2 = .ok (.if_icmp .lt 12, 3) := by decide +kernel
theorem dX4_in_5 : decode cX4_in 5 = .ok (.iload_n 0, 1) := by decide +kernel
theorem dX4_in_6 : decode cX4_in 6 = .ok (.iload_n 2, 1) := by decide +kernel
theorem dX4_in_7 : decode cX4_in 7 = .ok (.if_icmp .gt 7, 3) := by decide +kernel
theorem dX4_in_10 : decode cX4_in 10 = .ok (.iconst 1, 1) := by decide +kernel
theorem dX4_in_11 : decode cX4_in 11 = .ok (.goto 4, 3) := by decide +kernel
theorem dX4_in_14 : decode cX4_in 14 = .ok (.iconst 0, 1) := by decide +kernel
theorem dX4_in_15 : decode cX4_in 15 = .ok (.ireturn, 1) := by decide +kernel
theorem dX4_throwsIf_0 : decode cX4_throwsIf 0 = .ok (.iload_n 1, 1) := by decide +kernel
theorem dX4_throwsIf_1 : decode cX4_throwsIf 1 = .ok (.ifCond .eq 8, 3) := by decide +kernel
theorem dX4_throwsIf_4 : decode cX4_throwsIf 4 = .ok (.aload_n 0, 1) := by decide +kernel
theorem dX4_throwsIf_5 : decode cX4_throwsIf 5 = .ok (.iload_n 2, 1) := by decide +kernel
theorem dX4_throwsIf_6 : decode cX4_throwsIf 6 = .ok (.putfield 88, 3) := by decide +kernel
theorem dX4_throwsIf_9 : decode cX4_throwsIf 9 = .ok (.iload_n 1, 1) := by decide +kernel
theorem dX4_throwsIf_10 : decode cX4_throwsIf 10 = .ok (.ireturn, 1) := by decide +kernel
theorem dX4_channel_0 : decode cX4_channel 0 = .ok (.aload_n 0, 1) := by decide +kernel
theorem dX4_channel_1 : decode cX4_channel 1 = .ok (.iconst 0, 1) := by decide +kernel
theorem dX4_channel_2 : decode cX4_channel 2 = .ok (.putfield 88, 3) := by decide +kernel
theorem dX4_channel_5 : decode cX4_channel 5 = .ok (.aload_n 0, 1) := by decide +kernel
theorem dX4_channel_6 : decode cX4_channel 6 = .ok (.aload_n 0, 1) := by decide +kernel
theorem dX4_channel_7 : decode cX4_channel 7 = .ok (.getfield 91, 3) := by decide +kernel
theorem dX4_channel_10 : decode cX4_channel 10 = .ok (.bipush 8, 2) := by decide +kernel
theorem dX4_channel_12 : decode cX4_channel 12 = .ok (.if_icmp .ne 7, 3) := by decide +kernel
theorem dX4_channel_15 : decode cX4_channel 15 = .ok (.iconst 1, 1) := by decide +kernel
theorem dX4_channel_16 : decode cX4_channel 16 = .ok (.goto 4, 3) := by decide +kernel
theorem dX4_channel_19 : decode cX4_channel 19 = .ok (.iconst 0, 1) := by decide +kernel
theorem dX4_channel_20 : decode cX4_channel 20 = .ok (.iconst 1, 1) := by decide +kernel
theorem dX4_channel_21 : decode cX4_channel 21 = .ok (.invokevirtual 105, 3) := by decide +kernel
theorem dX4_channel_24 : decode cX4_channel 24 = .ok (.ifCond .eq 5, 3) := by decide +kernel
theorem dX4_channel_27 : decode cX4_channel 27 = .ok (.iconst 0, 1) := by decide +kernel
theorem dX4_channel_28 : decode cX4_channel 28 = .ok (.ireturn, 1) := by decide +kernel
theorem dX4_channel_29 : decode cX4_channel 29 = .ok (.aload_n 0, 1) := by decide +kernel
theorem dX4_channel_30 : decode cX4_channel 30 = .ok (.dup, 1) := by decide +kernel
theorem dX4_channel_31 : decode cX4_channel 31 = .ok (.getfield 91, 3) := by decide +kernel
theorem dX4_channel_34 : decode cX4_channel 34 = .ok (.iconst 1, 1) := by decide +kernel
theorem dX4_channel_35 : decode cX4_channel 35 = .ok (.iadd, 1) := by decide +kernel
theorem dX4_channel_36 : decode cX4_channel 36 = .ok (.putfield 91, 3) := by decide +kernel
theorem dX4_channel_39 : decode cX4_channel 39 = .ok (.aload_n 0, 1) := by decide +kernel
theorem dX4_channel_40 : decode cX4_channel 40 = .ok (.getfield 91, 3) := by decide +kernel
theorem dX4_channel_43 : decode cX4_channel 43 = .ok (.iconst 1, 1) := by decide +kernel
theorem dX4_channel_44 : decode cX4_channel 44 = .ok (.isub, 1) := by decide +kernel
theorem dX4_channel_45 : decode cX4_channel 45 = .ok (.ireturn, 1) := by decide +kernel
theorem dX4_well_0 : decode cX4_well 0 = .ok (.aload_n 0, 1) := by decide +kernel
theorem dX4_well_1 : decode cX4_well 1 = .ok (.iconst 0, 1) := by decide +kernel
theorem dX4_well_2 : decode cX4_well 2 = .ok (.putfield 88, 3) := by decide +kernel
theorem dX4_well_5 : decode cX4_well 5 = .ok (.aload_n 0, 1) := by decide +kernel
theorem dX4_well_6 : decode cX4_well 6 = .ok (.aload_n 0, 1) := by decide +kernel
theorem dX4_well_7 : decode cX4_well 7 = .ok (.iload_n 1, 1) := by decide +kernel
theorem dX4_well_8 : decode cX4_well 8 = .ok (.invokevirtual 98, 3) := by decide +kernel
theorem dX4_well_11 : decode cX4_well 11 = .ok (.iconst 1, 1) := by decide +kernel
theorem dX4_well_12 : decode cX4_well 12 = .ok (.invokevirtual 105, 3) := by decide +kernel
theorem dX4_well_15 : decode cX4_well 15 = .ok (.ifCond .ne 17, 3) := by decide +kernel
theorem dX4_well_18 : decode cX4_well 18 = .ok (.aload_n 0, 1) := by decide +kernel
theorem dX4_well_19 : decode cX4_well 19 = .ok (.aload_n 0, 1) := by decide +kernel
theorem dX4_well_20 : decode cX4_well 20 = .ok (.getfield 20, 3) := by decide +kernel
theorem dX4_well_23 : decode cX4_well 23 = .ok (.iload_n 1, 1) := by decide +kernel
theorem dX4_well_24 : decode cX4_well 24 = .ok (.baload, 1) := by decide +kernel
theorem dX4_well_25 : decode cX4_well 25 = .ok (.iconst 2, 1) := by decide +kernel
theorem dX4_well_26 : decode cX4_well 26 = .ok (.invokevirtual 105, 3) := by decide +kernel
theorem dX4_well_29 : decode cX4_well 29 = .ok (.ifCond .eq 5, 3) := by decide +kernel
theorem dX4_well_32 : decode cX4_well 32 = .ok (.iconst 0, 1) := by decide +kernel
theorem dX4_well_33 : decode cX4_well 33 = .ok (.ireturn, 1) := by decide +kernel
theorem dX4_well_34 : decode cX4_well 34 = .ok (.bipush 20, 2) := by decide +kernel
theorem dX4_well_36 : decode cX4_well 36 = .ok (.iload_n 1, 1) := by decide +kernel
theorem dX4_well_37 : decode cX4_well 37 = .ok (.imul, 1) := by decide +kernel
theorem dX4_well_38 : decode cX4_well 38 = .ok (.aload_n 0, 1) := by decide +kernel
theorem dX4_well_39 : decode cX4_well 39 = .ok (.getfield 16, 3) := by decide +kernel
theorem dX4_well_42 : decode cX4_well 42 = .ok (.iload_n 1, 1) := by decide +kernel
theorem dX4_well_43 : decode cX4_well 43 = .ok (.iaload, 1) := by decide +kernel
theorem dX4_well_44 : decode cX4_well 44 = .ok (.iadd, 1) := by decide +kernel
theorem dX4_well_45 : decode cX4_well 45 = .ok (.istore 5, 2) := by decide +kernel
theorem dX4_well_47 : decode cX4_well 47 = .ok (.iload_n 2, 1) := by decide +kernel
theorem dX4_well_48 : decode cX4_well 48 = .ok (.iconst 0, 1) := by decide +kernel
theorem dX4_well_49 : decode cX4_well 49 = .ok (.bipush 100, 2) := by decide +kernel
theorem dX4_well_51 : decode cX4_well 51 = .ok (.invokestatic 94, 3) := by decide +kernel
theorem dX4_well_54 : decode cX4_well 54 = .ok (.ifCond .eq 52, 3) := by decide +kernel
theorem dX4_well_57 : decode cX4_well 57 = .ok (.iload_n 3, 1) := by decide +kernel
theorem dX4_well_58 : decode cX4_well 58 = .ok (.iconst 0, 1) := by decide +kernel
theorem dX4_well_59 : decode cX4_well 59 = .ok (.bipush 100, 2) := by decide +kernel
theorem dX4_well_61 : decode cX4_well 61 = .ok (.invokestatic 94, 3) := by decide +kernel
theorem dX4_well_64 : decode cX4_well 64 = .ok (.ifCond .eq 42, 3) := by decide +kernel
theorem dX4_well_67 : decode cX4_well 67 = .ok (.iload 4, 2) := by decide +kernel
theorem dX4_well_69 : decode cX4_well 69 = .ok (.iconst 0, 1) := by decide +kernel
theorem dX4_well_70 : decode cX4_well 70 = .ok (.sipush 1000, 3) := by decide +kernel
theorem dX4_well_73 : decode cX4_well 73 = .ok (.invokestatic 94, 3) := by decide +kernel
theorem dX4_well_76 : decode cX4_well 76 = .ok (.ifCond .eq 30, 3) := by decide +kernel
theorem dX4_well_79 : decode cX4_well 79 = .ok (.aload_n 0, 1) := by decide +kernel
theorem dX4_well_80 : decode cX4_well 80 = .ok (.getfield 16, 3) := by decide +kernel
theorem dX4_well_83 : decode cX4_well 83 = .ok (.iload_n 1, 1) := by decide +kernel
theorem dX4_well_84 : decode cX4_well 84 = .ok (.iaload, 1) := by decide +kernel
theorem dX4_well_85 : decode cX4_well 85 = .ok (.ifCond .eq 17, 3) := by decide +kernel
theorem dX4_well_88 : decode cX4_well 88 = .ok (.iload 4, 2) := by decide +kernel
theorem dX4_well_90 : decode cX4_well 90 = .ok (.aload_n 0, 1) := by decide +kernel
theorem dX4_well_91 : decode cX4_well 91 = .ok (.getfield 39, 3) := by decide +kernel
theorem dX4_well_94 : decode cX4_well 94 = .ok (.iload 5, 2) := by decide +kernel
theorem dX4_well_96 : decode cX4_well 96 = .ok (.iconst 1, 1) := by decide +kernel
theorem dX4_well_97 : decode cX4_well 97 = .ok (.isub, 1) := by decide +kernel
theorem dX4_well_98 : decode cX4_well 98 = .ok (.iaload, 1) := by decide +kernel
theorem dX4_well_99 : decode cX4_well 99 = .ok (.if_icmp .lt 7, 3) := by decide +kernel
theorem dX4_well_102 : decode cX4_well 102 = .ok (.iconst 1, 1) := by decide +kernel
theorem dX4_well_103 : decode cX4_well 103 = .ok (.goto 4, 3) := by decide +kernel
theorem dX4_well_106 : decode cX4_well 106 = .ok (.iconst 0, 1) := by decide +kernel
theorem dX4_well_107 : decode cX4_well 107 = .ok (.istore 6, 2) := by decide +kernel
theorem dX4_well_109 : decode cX4_well 109 = .ok (.aload_n 0, 1) := by decide +kernel
theorem dX4_well_110 : decode cX4_well 110 = .ok (.iload 6, 2) := by decide +kernel
theorem dX4_well_112 : decode cX4_well 112 = .ok (.ifCond .ne 7, 3) := by decide +kernel
theorem dX4_well_115 : decode cX4_well 115 = .ok (.iconst 1, 1) := by decide +kernel
theorem dX4_well_116 : decode cX4_well 116 = .ok (.goto 4, 3) := by decide +kernel
theorem dX4_well_119 : decode cX4_well 119 = .ok (.iconst 0, 1) := by decide +kernel
theorem dX4_well_120 : decode cX4_well 120 = .ok (.iconst 3, 1) := by decide +kernel
theorem dX4_well_121 : decode cX4_well 121 = .ok (.invokevirtual 105, 3) := by decide +kernel
theorem dX4_well_124 : decode cX4_well 124 = .ok (.ifCond .ne 27, 3) := by decide +kernel
theorem dX4_well_127 : decode cX4_well 127 = .ok (.aload_n 0, 1) := by decide +kernel
theorem dX4_well_128 : decode cX4_well 128 = .ok (.aload_n 0, 1) := by decide +kernel
theorem dX4_well_129 : decode cX4_well 129 = .ok (.getfield 16, 3) := by decide +kernel
theorem dX4_well_132 : decode cX4_well 132 = .ok (.iload_n 1, 1) := by decide +kernel
theorem dX4_well_133 : decode cX4_well 133 = .ok (.iaload, 1) := by decide +kernel
theorem dX4_well_134 : decode cX4_well 134 = .ok (.bipush 20, 2) := by decide +kernel
theorem dX4_well_136 : decode cX4_well 136 = .ok (.if_icmp .ne 7, 3) := by decide +kernel
theorem dX4_well_139 : decode cX4_well 139 = .ok (.iconst 1, 1) := by decide +kernel
theorem dX4_well_140 : decode cX4_well 140 = .ok (.goto 4, 3) := by decide +kernel
theorem dX4_well_143 : decode cX4_well 143 = .ok (.iconst 0, 1) := by decide +kernel
theorem dX4_well_144 : decode cX4_well 144 = .ok (.iconst 4, 1) := by decide +kernel
theorem dX4_well_145 : decode cX4_well 145 = .ok (.invokevirtual 105, 3) := by decide +kernel
theorem dX4_well_148 : decode cX4_well 148 = .ok (.ifCond .eq 5, 3) := by decide +kernel
theorem dX4_well_151 : decode cX4_well 151 = .ok (.iconst 0, 1) := by decide +kernel
theorem dX4_well_152 : decode cX4_well 152 = .ok (.ireturn, 1) := by decide +kernel
theorem dX4_well_153 : decode cX4_well 153 = .ok (.aload_n 0, 1) := by decide +kernel
theorem dX4_well_154 : decode cX4_well 154 = .ok (.getfield 33, 3) := by decide +kernel
theorem dX4_well_157 : decode cX4_well 157 = .ok (.iload 5, 2) := by decide +kernel
theorem dX4_well_159 : decode cX4_well 159 = .ok (.iload_n 2, 1) := by decide +kernel
theorem dX4_well_160 : decode cX4_well 160 = .ok (.iastore, 1) := by decide +kernel
theorem dX4_well_161 : decode cX4_well 161 = .ok (.aload_n 0, 1) := by decide +kernel
theorem dX4_well_162 : decode cX4_well 162 = .ok (.getfield 36, 3) := by decide +kernel
theorem dX4_well_165 : decode cX4_well 165 = .ok (.iload 5, 2) := by decide +kernel
theorem dX4_well_167 : decode cX4_well 167 = .ok (.iload_n 3, 1) := by decide +kernel
theorem dX4_well_168 : decode cX4_well 168 = .ok (.iastore, 1) := by decide +kernel
theorem dX4_well_169 : decode cX4_well 169 = .ok (.aload_n 0, 1) := by decide +kernel
theorem dX4_well_170 : decode cX4_well 170 = .ok (.getfield 39, 3) := by decide +kernel
theorem dX4_well_173 : decode cX4_well 173 = .ok (.iload 5, 2) := by decide +kernel
theorem dX4_well_175 : decode cX4_well 175 = .ok (.iload 4, 2) := by decide +kernel
theorem dX4_well_177 : decode cX4_well 177 = .ok (.iastore, 1) := by decide +kernel
theorem dX4_well_178 : decode cX4_well 178 = .ok (.aload_n 0, 1) := by decide +kernel
theorem dX4_well_179 : decode cX4_well 179 = .ok (.getfield 16, 3) := by decide +kernel
theorem dX4_well_182 : decode cX4_well 182 = .ok (.iload_n 1, 1) := by decide +kernel
theorem dX4_well_183 : decode cX4_well 183 = .ok (.dup2, 1) := by decide +kernel
theorem dX4_well_184 : decode cX4_well 184 = .ok (.iaload, 1) := by decide +kernel
theorem dX4_well_185 : decode cX4_well 185 = .ok (.iconst 1, 1) := by decide +kernel
theorem dX4_well_186 : decode cX4_well 186 = .ok (.iadd, 1) := by decide +kernel
theorem dX4_well_187 : decode cX4_well 187 = .ok (.iastore, 1) := by decide +kernel
theorem dX4_well_188 : decode cX4_well 188 = .ok (.aload_n 0, 1) := by decide +kernel
theorem dX4_well_189 : decode cX4_well 189 = .ok (.getfield 16, 3) := by decide +kernel
theorem dX4_well_192 : decode cX4_well 192 = .ok (.iload_n 1, 1) := by decide +kernel
theorem dX4_well_193 : decode cX4_well 193 = .ok (.iaload, 1) := by decide +kernel
theorem dX4_well_194 : decode cX4_well 194 = .ok (.iconst 1, 1) := by decide +kernel
theorem dX4_well_195 : decode cX4_well 195 = .ok (.isub, 1) := by decide +kernel
theorem dX4_well_196 : decode cX4_well 196 = .ok (.ireturn, 1) := by decide +kernel
theorem dX4_noChannel_0 : decode cX4_noChannel 0 = .ok (.iload_n 1, 1) := by decide +kernel
theorem dX4_noChannel_1 : decode cX4_noChannel 1 = .ok (.iconst 0, 1) := by decide +kernel
theorem dX4_noChannel_2 : decode cX4_noChannel 2 = .ok (.aload_n 0, 1) := by decide +kernel
theorem dX4_noChannel_3 : decode cX4_noChannel 3 = .ok (.getfield 91, 3) := by decide +kernel
theorem dX4_noChannel_6 : decode cX4_noChannel 6 = .ok (.iconst 1, 1) := by decide +kernel
theorem dX4_noChannel_7 : decode cX4_noChannel 7 = .ok (.isub, 1) := by decide +kernel
theorem dX4_noChannel_8 : decode cX4_noChannel 8 = .ok (.invokestatic 94, 3) := by decide +kernel
theorem dX4_noChannel_11 : decode cX4_noChannel 11 = .ok (.ifCond .ne 7, 3) := by decide +kernel
theorem dX4_noChannel_14 : decode cX4_noChannel 14 = .ok (.iconst 1, 1) := by decide +kernel
theorem dX4_noChannel_15 : decode cX4_noChannel 15 = .ok (.goto 4, 3) := by decide +kernel
theorem dX4_noChannel_18 : decode cX4_noChannel 18 = .ok (.iconst 0, 1) := by decide +kernel
theorem dX4_noChannel_19 : decode cX4_noChannel 19 = .ok (.ireturn, 1) := by decide +kernel
theorem dX4_may_0 : decode cX4_may 0 = .ok (.aload_n 0, 1) := by decide +kernel
theorem dX4_may_1 : decode cX4_may 1 = .ok (.iconst 0, 1) := by decide +kernel
theorem dX4_may_2 : decode cX4_may 2 = .ok (.putfield 88, 3) := by decide +kernel
theorem dX4_may_5 : decode cX4_may 5 = .ok (.aload_n 0, 1) := by decide +kernel
theorem dX4_may_6 : decode cX4_may 6 = .ok (.aload_n 0, 1) := by decide +kernel
theorem dX4_may_7 : decode cX4_may 7 = .ok (.iload_n 1, 1) := by decide +kernel
theorem dX4_may_8 : decode cX4_may 8 = .ok (.invokevirtual 98, 3) := by decide +kernel
theorem dX4_may_11 : decode cX4_may 11 = .ok (.iconst 1, 1) := by decide +kernel
theorem dX4_may_12 : decode cX4_may 12 = .ok (.invokevirtual 105, 3) := by decide +kernel
theorem dX4_may_15 : decode cX4_may 15 = .ok (.ifCond .ne 29, 3) := by decide +kernel
theorem dX4_may_18 : decode cX4_may 18 = .ok (.aload_n 0, 1) := by decide +kernel
theorem dX4_may_19 : decode cX4_may 19 = .ok (.aload_n 0, 1) := by decide +kernel
theorem dX4_may_20 : decode cX4_may 20 = .ok (.getfield 20, 3) := by decide +kernel
theorem dX4_may_23 : decode cX4_may 23 = .ok (.iload_n 1, 1) := by decide +kernel
theorem dX4_may_24 : decode cX4_may 24 = .ok (.baload, 1) := by decide +kernel
theorem dX4_may_25 : decode cX4_may 25 = .ok (.iconst 2, 1) := by decide +kernel
theorem dX4_may_26 : decode cX4_may 26 = .ok (.invokevirtual 105, 3) := by decide +kernel
theorem dX4_may_29 : decode cX4_may 29 = .ok (.ifCond .ne 15, 3) := by decide +kernel
theorem dX4_may_32 : decode cX4_may 32 = .ok (.aload_n 0, 1) := by decide +kernel
theorem dX4_may_33 : decode cX4_may 33 = .ok (.iload_n 1, 1) := by decide +kernel
theorem dX4_may_34 : decode cX4_may 34 = .ok (.invokevirtual 123, 3) := by decide +kernel
theorem dX4_may_37 : decode cX4_may 37 = .ok (.ifCond .eq 7, 3) := by decide +kernel
theorem dX4_may_40 : decode cX4_may 40 = .ok (.iconst 1, 1) := by decide +kernel
theorem dX4_may_41 : decode cX4_may 41 = .ok (.goto 4, 3) := by decide +kernel
theorem dX4_may_44 : decode cX4_may 44 = .ok (.iconst 0, 1) := by decide +kernel
theorem dX4_may_45 : decode cX4_may 45 = .ok (.ireturn, 1) := by decide +kernel
theorem dX4_mayBe_0 : decode cX4_mayBe 0 = .ok (.aload_n 0, 1) := by decide +kernel
theorem dX4_mayBe_1 : decode cX4_mayBe 1 = .ok (.getfield 16, 3) := by decide +kernel
theorem dX4_mayBe_4 : decode cX4_mayBe 4 = .ok (.iload_n 1, 1) := by decide +kernel
theorem dX4_mayBe_5 : decode cX4_mayBe 5 = .ok (.iaload, 1) := by decide +kernel
theorem dX4_mayBe_6 : decode cX4_mayBe 6 = .ok (.iconst 2, 1) := by decide +kernel
theorem dX4_mayBe_7 : decode cX4_mayBe 7 = .ok (.if_icmp .ge 5, 3) := by decide +kernel
theorem dX4_mayBe_10 : decode cX4_mayBe 10 = .ok (.iconst 0, 1) := by decide +kernel
theorem dX4_mayBe_11 : decode cX4_mayBe 11 = .ok (.ireturn, 1) := by decide +kernel
theorem dX4_mayBe_12 : decode cX4_mayBe 12 = .ok (.bipush 20, 2) := by decide +kernel
theorem dX4_mayBe_14 : decode cX4_mayBe 14 = .ok (.iload_n 1, 1) := by decide +kernel
theorem dX4_mayBe_15 : decode cX4_mayBe 15 = .ok (.imul, 1) := by decide +kernel
theorem dX4_mayBe_16 : decode cX4_mayBe 16 = .ok (.istore_n 2, 1) := by decide +kernel
theorem dX4_mayBe_17 : decode cX4_mayBe 17 = .ok (.iload_n 2, 1) := by decide +kernel
theorem dX4_mayBe_18 : decode cX4_mayBe 18 = .ok (.bipush 20, 2) := by decide +kernel
theorem dX4_mayBe_20 : decode cX4_mayBe 20 = .ok (.iload_n 1, 1) := by decide +kernel
theorem dX4_mayBe_21 : decode cX4_mayBe 21 = .ok (.imul, 1) := by decide +kernel
theorem dX4_mayBe_22 : decode cX4_mayBe 22 = .ok (.aload_n 0, 1) := by decide +kernel
theorem dX4_mayBe_23 : decode cX4_mayBe 23 = .ok (.getfield 16, 3) := by decide +kernel
theorem dX4_mayBe_26 : decode cX4_mayBe 26 = .ok (.iload_n 1, 1) := by decide +kernel
theorem dX4_mayBe_27 : decode cX4_mayBe 27 = .ok (.iaload, 1) := by decide +kernel
theorem dX4_mayBe_28 : decode cX4_mayBe 28 = .ok (.iadd, 1) := by decide +kernel
theorem dX4_mayBe_29 : decode cX4_mayBe 29 = .ok (.if_icmp .ge 128, 3) := by decide +kernel
theorem dX4_mayBe_32 : decode cX4_mayBe 32 = .ok (.iconst 0, 1) := by decide +kernel
theorem dX4_mayBe_33 : decode cX4_mayBe 33 = .ok (.istore_n 3, 1) := by decide +kernel
theorem dX4_mayBe_34 : decode cX4_mayBe 34 = .ok (.iload_n 3, 1) := by decide +kernel
theorem dX4_mayBe_35 : decode cX4_mayBe 35 = .ok (.aload_n 0, 1) := by decide +kernel
theorem dX4_mayBe_36 : decode cX4_mayBe 36 = .ok (.getfield 91, 3) := by decide +kernel
theorem dX4_mayBe_39 : decode cX4_mayBe 39 = .ok (.if_icmp .ge 112, 3) := by decide +kernel
theorem dX4_mayBe_42 : decode cX4_mayBe 42 = .ok (.aload_n 0, 1) := by decide +kernel
theorem dX4_mayBe_43 : decode cX4_mayBe 43 = .ok (.getfield 20, 3) := by decide +kernel
theorem dX4_mayBe_46 : decode cX4_mayBe 46 = .ok (.iload_n 3, 1) := by decide +kernel
theorem dX4_mayBe_47 : decode cX4_mayBe 47 = .ok (.baload, 1) := by decide +kernel
theorem dX4_mayBe_48 : decode cX4_mayBe 48 = .ok (.ifCond .ne 6, 3) := by decide +kernel
theorem dX4_mayBe_51 : decode cX4_mayBe 51 = .ok (.goto 94, 3) := by decide +kernel
theorem dX4_mayBe_54 : decode cX4_mayBe 54 = .ok (.bipush 20, 2) := by decide +kernel
theorem dX4_mayBe_56 : decode cX4_mayBe 56 = .ok (.iload_n 3, 1) := by decide +kernel
theorem dX4_mayBe_57 : decode cX4_mayBe 57 = .ok (.imul, 1) := by decide +kernel
theorem dX4_mayBe_58 : decode cX4_mayBe 58 = .ok (.istore 4, 2) := by decide +kernel
theorem dX4_mayBe_60 : decode cX4_mayBe 60 = .ok (.iload 4, 2) := by decide +kernel
theorem dX4_mayBe_62 : decode cX4_mayBe 62 = .ok (.bipush 20, 2) := by decide +kernel
theorem dX4_mayBe_64 : decode cX4_mayBe 64 = .ok (.iload_n 3, 1) := by decide +kernel
theorem dX4_mayBe_65 : decode cX4_mayBe 65 = .ok (.imul, 1) := by decide +kernel
theorem dX4_mayBe_66 : decode cX4_mayBe 66 = .ok (.aload_n 0, 1) := by decide +kernel
theorem dX4_mayBe_67 : decode cX4_mayBe 67 = .ok (.getfield 16, 3) := by decide +kernel
theorem dX4_mayBe_70 : decode cX4_mayBe 70 = .ok (.iload_n 3, 1) := by decide +kernel
theorem dX4_mayBe_71 : decode cX4_mayBe 71 = .ok (.iaload, 1) := by decide +kernel
theorem dX4_mayBe_72 : decode cX4_mayBe 72 = .ok (.iadd, 1) := by decide +kernel
theorem dX4_mayBe_73 : decode cX4_mayBe 73 = .ok (.if_icmp .ge 72, 3) := by decide +kernel
theorem dX4_mayBe_76 : decode cX4_mayBe 76 = .ok (.aload_n 0, 1) := by decide +kernel
theorem dX4_mayBe_77 : decode cX4_mayBe 77 = .ok (.getfield 33, 3) := by decide +kernel
theorem dX4_mayBe_80 : decode cX4_mayBe 80 = .ok (.iload_n 2, 1) := by decide +kernel
theorem dX4_mayBe_81 : decode cX4_mayBe 81 = .ok (.iaload, 1) := by decide +kernel
theorem dX4_mayBe_82 : decode cX4_mayBe 82 = .ok (.aload_n 0, 1) := by decide +kernel
theorem dX4_mayBe_83 : decode cX4_mayBe 83 = .ok (.getfield 36, 3) := by decide +kernel
theorem dX4_mayBe_86 : decode cX4_mayBe 86 = .ok (.iload_n 2, 1) := by decide +kernel
theorem dX4_mayBe_87 : decode cX4_mayBe 87 = .ok (.iaload, 1) := by decide +kernel
theorem dX4_mayBe_88 : decode cX4_mayBe 88 = .ok (.aload_n 0, 1) := by decide +kernel
theorem dX4_mayBe_89 : decode cX4_mayBe 89 = .ok (.getfield 33, 3) := by decide +kernel
theorem dX4_mayBe_92 : decode cX4_mayBe 92 = .ok (.iload 4, 2) := by decide +kernel
theorem dX4_mayBe_94 : decode cX4_mayBe 94 = .ok (.iaload, 1) := by decide +kernel
theorem dX4_mayBe_95 : decode cX4_mayBe 95 = .ok (.aload_n 0, 1) := by decide +kernel
theorem dX4_mayBe_96 : decode cX4_mayBe 96 = .ok (.getfield 36, 3) := by decide +kernel
theorem dX4_mayBe_99 : decode cX4_mayBe 99 = .ok (.iload 4, 2) := by decide +kernel
theorem dX4_mayBe_101 : decode cX4_mayBe 101 = .ok (.iaload, 1) := by decide +kernel
theorem dX4_mayBe_102 : decode cX4_mayBe 102 = .ok (.invokestatic 119, 3) := by decide +kernel
theorem dX4_mayBe_105 : decode cX4_mayBe 105 = .ok (.aload_n 0, 1) := by decide +kernel
theorem dX4_mayBe_106 : decode cX4_mayBe 106 = .ok (.getfield 57, 3) := by decide +kernel
theorem dX4_mayBe_109 : decode cX4_mayBe 109 = .ok (.iconst 0, 1) := by decide +kernel
theorem dX4_mayBe_110 : decode cX4_mayBe 110 = .ok (.iaload, 1) := by decide +kernel
theorem dX4_mayBe_111 : decode cX4_mayBe 111 = .ok (.if_icmp .ge 28, 3) := by decide +kernel
theorem dX4_mayBe_114 : decode cX4_mayBe 114 = .ok (.aload_n 0, 1) := by decide +kernel
theorem dX4_mayBe_115 : decode cX4_mayBe 115 = .ok (.getfield 39, 3) := by decide +kernel
theorem dX4_mayBe_118 : decode cX4_mayBe 118 = .ok (.iload_n 2, 1) := by decide +kernel
theorem dX4_mayBe_119 : decode cX4_mayBe 119 = .ok (.iaload, 1) := by decide +kernel
theorem dX4_mayBe_120 : decode cX4_mayBe 120 = .ok (.aload_n 0, 1) := by decide +kernel
theorem dX4_mayBe_121 : decode cX4_mayBe 121 = .ok (.getfield 39, 3) := by decide +kernel
theorem dX4_mayBe_124 : decode cX4_mayBe 124 = .ok (.iload 4, 2) := by decide +kernel
theorem dX4_mayBe_126 : decode cX4_mayBe 126 = .ok (.iaload, 1) := by decide +kernel
theorem dX4_mayBe_127 : decode cX4_mayBe 127 = .ok (.aload_n 0, 1) := by decide +kernel
theorem dX4_mayBe_128 : decode cX4_mayBe 128 = .ok (.getfield 57, 3) := by decide +kernel
theorem dX4_mayBe_131 : decode cX4_mayBe 131 = .ok (.iconst 1, 1) := by decide +kernel
theorem dX4_mayBe_132 : decode cX4_mayBe 132 = .ok (.iaload, 1) := by decide +kernel
theorem dX4_mayBe_133 : decode cX4_mayBe 133 = .ok (.iadd, 1) := by decide +kernel
theorem dX4_mayBe_134 : decode cX4_mayBe 134 = .ok (.if_icmp .ge 5, 3) := by decide +kernel
theorem dX4_mayBe_137 : decode cX4_mayBe 137 = .ok (.iconst 0, 1) := by decide +kernel
theorem dX4_mayBe_138 : decode cX4_mayBe 138 = .ok (.ireturn, 1) := by decide +kernel
theorem dX4_mayBe_139 : decode cX4_mayBe 139 = .ok (.iinc 4 1, 3) := by decide +kernel
theorem dX4_mayBe_142 : decode cX4_mayBe 142 = .ok (.goto (-82), 3) := by decide +kernel
theorem dX4_mayBe_145 : decode cX4_mayBe 145 = .ok (.iinc 3 1, 3) := by decide +kernel
theorem dX4_mayBe_148 : decode cX4_mayBe 148 = .ok (.goto (-114), 3) := by decide +kernel
theorem dX4_mayBe_151 : decode cX4_mayBe 151 = .ok (.iinc 2 1, 3) := by decide +kernel
theorem dX4_mayBe_154 : decode cX4_mayBe 154 = .ok (.goto (-137), 3) := by decide +kernel
theorem dX4_mayBe_157 : decode cX4_mayBe 157 = .ok (.iconst 1, 1) := by decide +kernel
theorem dX4_mayBe_158 : decode cX4_mayBe 158 = .ok (.ireturn, 1) := by decide +kernel
theorem dX4_steps_0 : decode cX4_steps 0 = .ok (.iload_n 0, 1) := by decide +kernel
theorem dX4_steps_1 : decode cX4_steps 1 = .ok (.iload_n 2, 1) := by decide +kernel
theorem dX4_steps_2 : decode cX4_steps 2 = .ok (.isub, 1) := by decide +kernel
theorem dX4_steps_3 : decode cX4_steps 3 = .ok (.invokestatic 109, 3) := by decide +kernel
theorem dX4_steps_6 : decode cX4_steps 6 = .ok (.iload_n 1, 1) := by decide +kernel
theorem dX4_steps_7 : decode cX4_steps 7 = .ok (.iload_n 3, 1) := by decide +kernel
theorem dX4_steps_8 : decode cX4_steps 8 = .ok (.isub, 1) := by decide +kernel
theorem dX4_steps_9 : decode cX4_steps 9 = .ok (.invokestatic 109, 3) := by decide +kernel
theorem dX4_steps_12 : decode cX4_steps 12 = .ok (.invokestatic 115, 3) := by decide +kernel
theorem dX4_steps_15 : decode cX4_steps 15 = .ok (.ireturn, 1) := by decide +kernel
theorem dX4_dig_0 : decode cX4_dig 0 = .ok (.aload_n 0, 1) := by decide +kernel
theorem dX4_dig_1 : decode cX4_dig 1 = .ok (.iconst 0, 1) := by decide +kernel
theorem dX4_dig_2 : decode cX4_dig 2 = .ok (.putfield 88, 3) := by decide +kernel
theorem dX4_dig_5 : decode cX4_dig 5 = .ok (.aload_n 0, 1) := by decide +kernel
theorem dX4_dig_6 : decode cX4_dig 6 = .ok (.aload_n 0, 1) := by decide +kernel
theorem dX4_dig_7 : decode cX4_dig 7 = .ok (.iload_n 1, 1) := by decide +kernel
theorem dX4_dig_8 : decode cX4_dig 8 = .ok (.invokevirtual 98, 3) := by decide +kernel
theorem dX4_dig_11 : decode cX4_dig 11 = .ok (.iconst 1, 1) := by decide +kernel
theorem dX4_dig_12 : decode cX4_dig 12 = .ok (.invokevirtual 105, 3) := by decide +kernel
theorem dX4_dig_15 : decode cX4_dig 15 = .ok (.ifCond .ne 50, 3) := by decide +kernel
theorem dX4_dig_18 : decode cX4_dig 18 = .ok (.aload_n 0, 1) := by decide +kernel
theorem dX4_dig_19 : decode cX4_dig 19 = .ok (.aload_n 0, 1) := by decide +kernel
theorem dX4_dig_20 : decode cX4_dig 20 = .ok (.getfield 20, 3) := by decide +kernel
theorem dX4_dig_23 : decode cX4_dig 23 = .ok (.iload_n 1, 1) := by decide +kernel
theorem dX4_dig_24 : decode cX4_dig 24 = .ok (.baload, 1) := by decide +kernel
theorem dX4_dig_25 : decode cX4_dig 25 = .ok (.iconst 2, 1) := by decide +kernel
theorem dX4_dig_26 : decode cX4_dig 26 = .ok (.invokevirtual 105, 3) := by decide +kernel
theorem dX4_dig_29 : decode cX4_dig 29 = .ok (.ifCond .ne 36, 3) := by decide +kernel
theorem dX4_dig_32 : decode cX4_dig 32 = .ok (.aload_n 0, 1) := by decide +kernel
theorem dX4_dig_33 : decode cX4_dig 33 = .ok (.iload_n 2, 1) := by decide +kernel
theorem dX4_dig_34 : decode cX4_dig 34 = .ok (.iconst 0, 1) := by decide +kernel
theorem dX4_dig_35 : decode cX4_dig 35 = .ok (.bipush 30, 2) := by decide +kernel
theorem dX4_dig_37 : decode cX4_dig 37 = .ok (.invokestatic 94, 3) := by decide +kernel
theorem dX4_dig_40 : decode cX4_dig 40 = .ok (.ifCond .eq 13, 3) := by decide +kernel
theorem dX4_dig_43 : decode cX4_dig 43 = .ok (.iload_n 3, 1) := by decide +kernel
theorem dX4_dig_44 : decode cX4_dig 44 = .ok (.iconst 1, 1) := by decide +kernel
theorem dX4_dig_45 : decode cX4_dig 45 = .ok (.bipush 15, 2) := by decide +kernel
theorem dX4_dig_47 : decode cX4_dig 47 = .ok (.invokestatic 94, 3) := by decide +kernel
theorem dX4_dig_50 : decode cX4_dig 50 = .ok (.ifCond .ne 7, 3) := by decide +kernel
theorem dX4_dig_53 : decode cX4_dig 53 = .ok (.iconst 1, 1) := by decide +kernel
theorem dX4_dig_54 : decode cX4_dig 54 = .ok (.goto 4, 3) := by decide +kernel
theorem dX4_dig_57 : decode cX4_dig 57 = .ok (.iconst 0, 1) := by decide +kernel
theorem dX4_dig_58 : decode cX4_dig 58 = .ok (.iconst 3, 1) := by decide +kernel
theorem dX4_dig_59 : decode cX4_dig 59 = .ok (.invokevirtual 105, 3) := by decide +kernel
theorem dX4_dig_62 : decode cX4_dig 62 = .ok (.ifCond .eq 5, 3) := by decide +kernel
theorem dX4_dig_65 : decode cX4_dig 65 = .ok (.iconst 0, 1) := by decide +kernel
theorem dX4_dig_66 : decode cX4_dig 66 = .ok (.ireturn, 1) := by decide +kernel
theorem dX4_dig_67 : decode cX4_dig 67 = .ok (.aload_n 0, 1) := by decide +kernel
theorem dX4_dig_68 : decode cX4_dig 68 = .ok (.iload_n 1, 1) := by decide +kernel
theorem dX4_dig_69 : decode cX4_dig 69 = .ok (.invokevirtual 123, 3) := by decide +kernel
theorem dX4_dig_72 : decode cX4_dig 72 = .ok (.ifCond .eq 12, 3) := by decide +kernel
theorem dX4_dig_75 : decode cX4_dig 75 = .ok (.aload_n 0, 1) := by decide +kernel
theorem dX4_dig_76 : decode cX4_dig 76 = .ok (.getfield 102, 3) := by decide +kernel
theorem dX4_dig_79 : decode cX4_dig 79 = .ok (.bipush 60, 2) := by decide +kernel
theorem dX4_dig_81 : decode cX4_dig 81 = .ok (.if_icmp .ne 5, 3) := by decide +kernel
theorem dX4_dig_84 : decode cX4_dig 84 = .ok (.iconst (-1), 1) := by decide +kernel
theorem dX4_dig_85 : decode cX4_dig 85 = .ok (.ireturn, 1) := by decide +kernel
theorem dX4_dig_86 : decode cX4_dig 86 = .ok (.aload_n 0, 1) := by decide +kernel
theorem dX4_dig_87 : decode cX4_dig 87 = .ok (.getfield 20, 3) := by decide +kernel
theorem dX4_dig_90 : decode cX4_dig 90 = .ok (.iload_n 1, 1) := by decide +kernel
theorem dX4_dig_91 : decode cX4_dig 91 = .ok (.iconst 1, 1) := by decide +kernel
theorem dX4_dig_92 : decode cX4_dig 92 = .ok (.bastore, 1) := by decide +kernel
theorem dX4_dig_93 : decode cX4_dig 93 = .ok (.aload_n 0, 1) := by decide +kernel
theorem dX4_dig_94 : decode cX4_dig 94 = .ok (.getfield 24, 3) := by decide +kernel
theorem dX4_dig_97 : decode cX4_dig 97 = .ok (.iload_n 1, 1) := by decide +kernel
theorem dX4_dig_98 : decode cX4_dig 98 = .ok (.aload_n 0, 1) := by decide +kernel
theorem dX4_dig_99 : decode cX4_dig 99 = .ok (.getfield 126, 3) := by decide +kernel
theorem dX4_dig_102 : decode cX4_dig 102 = .ok (.iastore, 1) := by decide +kernel
theorem dX4_dig_103 : decode cX4_dig 103 = .ok (.aload_n 0, 1) := by decide +kernel
theorem dX4_dig_104 : decode cX4_dig 104 = .ok (.getfield 27, 3) := by decide +kernel
theorem dX4_dig_107 : decode cX4_dig 107 = .ok (.iload_n 1, 1) := by decide +kernel
theorem dX4_dig_108 : decode cX4_dig 108 = .ok (.aload_n 0, 1) := by decide +kernel
theorem dX4_dig_109 : decode cX4_dig 109 = .ok (.getfield 129, 3) := by decide +kernel
theorem dX4_dig_112 : decode cX4_dig 112 = .ok (.iastore, 1) := by decide +kernel
theorem dX4_dig_113 : decode cX4_dig 113 = .ok (.aload_n 0, 1) := by decide +kernel
theorem dX4_dig_114 : decode cX4_dig 114 = .ok (.dup, 1) := by decide +kernel
theorem dX4_dig_115 : decode cX4_dig 115 = .ok (.getfield 129, 3) := by decide +kernel
theorem dX4_dig_118 : decode cX4_dig 118 = .ok (.iconst 1, 1) := by decide +kernel
theorem dX4_dig_119 : decode cX4_dig 119 = .ok (.iadd, 1) := by decide +kernel
theorem dX4_dig_120 : decode cX4_dig 120 = .ok (.putfield 129, 3) := by decide +kernel
theorem dX4_dig_123 : decode cX4_dig 123 = .ok (.aload_n 0, 1) := by decide +kernel
theorem dX4_dig_124 : decode cX4_dig 124 = .ok (.getfield 30, 3) := by decide +kernel
theorem dX4_dig_127 : decode cX4_dig 127 = .ok (.iload_n 1, 1) := by decide +kernel
theorem dX4_dig_128 : decode cX4_dig 128 = .ok (.sipush 1440, 3) := by decide +kernel
theorem dX4_dig_131 : decode cX4_dig 131 = .ok (.iload_n 3, 1) := by decide +kernel
theorem dX4_dig_132 : decode cX4_dig 132 = .ok (.imul, 1) := by decide +kernel
theorem dX4_dig_133 : decode cX4_dig 133 = .ok (.iastore, 1) := by decide +kernel
theorem dX4_dig_134 : decode cX4_dig 134 = .ok (.aload_n 0, 1) := by decide +kernel
theorem dX4_dig_135 : decode cX4_dig 135 = .ok (.iload_n 1, 1) := by decide +kernel
theorem dX4_dig_136 : decode cX4_dig 136 = .ok (.iconst 0, 1) := by decide +kernel
theorem dX4_dig_137 : decode cX4_dig 137 = .ok (.aload_n 0, 1) := by decide +kernel
theorem dX4_dig_138 : decode cX4_dig 138 = .ok (.getfield 30, 3) := by decide +kernel
theorem dX4_dig_141 : decode cX4_dig 141 = .ok (.iload_n 1, 1) := by decide +kernel
theorem dX4_dig_142 : decode cX4_dig 142 = .ok (.iaload, 1) := by decide +kernel
theorem dX4_dig_143 : decode cX4_dig 143 = .ok (.iload_n 2, 1) := by decide +kernel
theorem dX4_dig_144 : decode cX4_dig 144 = .ok (.invokevirtual 132, 3) := by decide +kernel
theorem dX4_dig_147 : decode cX4_dig 147 = .ok (.aload_n 0, 1) := by decide +kernel
theorem dX4_dig_148 : decode cX4_dig 148 = .ok (.getfield 102, 3) := by decide +kernel
theorem dX4_dig_151 : decode cX4_dig 151 = .ok (.iconst 1, 1) := by decide +kernel
theorem dX4_dig_152 : decode cX4_dig 152 = .ok (.isub, 1) := by decide +kernel
theorem dX4_dig_153 : decode cX4_dig 153 = .ok (.ireturn, 1) := by decide +kernel
theorem dX4_adds_0 : decode cX4_adds 0 = .ok (.aload_n 0, 1) := by decide +kernel
theorem dX4_adds_1 : decode cX4_adds 1 = .ok (.getfield 45, 3) := by decide +kernel
theorem dX4_adds_4 : decode cX4_adds 4 = .ok (.bipush 7, 2) := by decide +kernel
theorem dX4_adds_6 : decode cX4_adds 6 = .ok (.aload_n 0, 1) := by decide +kernel
theorem dX4_adds_7 : decode cX4_adds 7 = .ok (.getfield 102, 3) := by decide +kernel
theorem dX4_adds_10 : decode cX4_adds 10 = .ok (.imul, 1) := by decide +kernel
theorem dX4_adds_11 : decode cX4_adds 11 = .ok (.iload_n 1, 1) := by decide +kernel
theorem dX4_adds_12 : decode cX4_adds 12 = .ok (.iastore, 1) := by decide +kernel
theorem dX4_adds_13 : decode cX4_adds 13 = .ok (.aload_n 0, 1) := by decide +kernel
theorem dX4_adds_14 : decode cX4_adds 14 = .ok (.aload_n 0, 1) := by decide +kernel
theorem dX4_adds_15 : decode cX4_adds 15 = .ok (.getfield 102, 3) := by decide +kernel
theorem dX4_adds_18 : decode cX4_adds 18 = .ok (.iload_n 2, 1) := by decide +kernel
theorem dX4_adds_19 : decode cX4_adds 19 = .ok (.iload_n 3, 1) := by decide +kernel
theorem dX4_adds_20 : decode cX4_adds 20 = .ok (.iload 4, 2) := by decide +kernel
theorem dX4_adds_22 : decode cX4_adds 22 = .ok (.invokevirtual 156, 3) := by decide +kernel
theorem dX4_adds_25 : decode cX4_adds 25 = .ok (.aload_n 0, 1) := by decide +kernel
theorem dX4_adds_26 : decode cX4_adds 26 = .ok (.dup, 1) := by decide +kernel
theorem dX4_adds_27 : decode cX4_adds 27 = .ok (.getfield 102, 3) := by decide +kernel
theorem dX4_adds_30 : decode cX4_adds 30 = .ok (.iconst 1, 1) := by decide +kernel
theorem dX4_adds_31 : decode cX4_adds 31 = .ok (.iadd, 1) := by decide +kernel
theorem dX4_adds_32 : decode cX4_adds 32 = .ok (.putfield 102, 3) := by decide +kernel
theorem dX4_adds_35 : decode cX4_adds 35 = .ok (.return_, 1) := by decide +kernel
theorem dX4_sets_0 : decode cX4_sets 0 = .ok (.bipush 7, 2) := by decide +kernel
theorem dX4_sets_2 : decode cX4_sets 2 = .ok (.iload_n 1, 1) := by decide +kernel
theorem dX4_sets_3 : decode cX4_sets 3 = .ok (.imul, 1) := by decide +kernel
theorem dX4_sets_4 : decode cX4_sets 4 = .ok (.istore 5, 2) := by decide +kernel
theorem dX4_sets_6 : decode cX4_sets 6 = .ok (.aload_n 0, 1) := by decide +kernel
theorem dX4_sets_7 : decode cX4_sets 7 = .ok (.getfield 45, 3) := by decide +kernel
theorem dX4_sets_10 : decode cX4_sets 10 = .ok (.iload 5, 2) := by decide +kernel
theorem dX4_sets_12 : decode cX4_sets 12 = .ok (.iconst 1, 1) := by decide +kernel
theorem dX4_sets_13 : decode cX4_sets 13 = .ok (.iadd, 1) := by decide +kernel
theorem dX4_sets_14 : decode cX4_sets 14 = .ok (.iload_n 2, 1) := by decide +kernel
theorem dX4_sets_15 : decode cX4_sets 15 = .ok (.iastore, 1) := by decide +kernel
theorem dX4_sets_16 : decode cX4_sets 16 = .ok (.aload_n 0, 1) := by decide +kernel
theorem dX4_sets_17 : decode cX4_sets 17 = .ok (.getfield 45, 3) := by decide +kernel
theorem dX4_sets_20 : decode cX4_sets 20 = .ok (.iload 5, 2) := by decide +kernel
theorem dX4_sets_22 : decode cX4_sets 22 = .ok (.iconst 2, 1) := by decide +kernel
theorem dX4_sets_23 : decode cX4_sets 23 = .ok (.iadd, 1) := by decide +kernel
theorem dX4_sets_24 : decode cX4_sets 24 = .ok (.iload_n 3, 1) := by decide +kernel
theorem dX4_sets_25 : decode cX4_sets 25 = .ok (.iastore, 1) := by decide +kernel
theorem dX4_sets_26 : decode cX4_sets 26 = .ok (.aload_n 0, 1) := by decide +kernel
theorem dX4_sets_27 : decode cX4_sets 27 = .ok (.getfield 45, 3) := by decide +kernel
theorem dX4_sets_30 : decode cX4_sets 30 = .ok (.iload 5, 2) := by decide +kernel
theorem dX4_sets_32 : decode cX4_sets 32 = .ok (.iconst 3, 1) := by decide +kernel
theorem dX4_sets_33 : decode cX4_sets 33 = .ok (.iadd, 1) := by decide +kernel
theorem dX4_sets_34 : decode cX4_sets 34 = .ok (.iload 4, 2) := by decide +kernel
theorem dX4_sets_36 : decode cX4_sets 36 = .ok (.iastore, 1) := by decide +kernel
theorem dX4_sets_37 : decode cX4_sets 37 = .ok (.aload_n 0, 1) := by decide +kernel
theorem dX4_sets_38 : decode cX4_sets 38 = .ok (.getfield 45, 3) := by decide +kernel
theorem dX4_sets_41 : decode cX4_sets 41 = .ok (.iload 5, 2) := by decide +kernel
theorem dX4_sets_43 : decode cX4_sets 43 = .ok (.iconst 5, 1) := by decide +kernel
theorem dX4_sets_44 : decode cX4_sets 44 = .ok (.iadd, 1) := by decide +kernel
theorem dX4_sets_45 : decode cX4_sets 45 = .ok (.iconst 0, 1) := by decide +kernel
theorem dX4_sets_46 : decode cX4_sets 46 = .ok (.iastore, 1) := by decide +kernel
theorem dX4_sets_47 : decode cX4_sets 47 = .ok (.aload_n 0, 1) := by decide +kernel
theorem dX4_sets_48 : decode cX4_sets 48 = .ok (.getfield 45, 3) := by decide +kernel
theorem dX4_sets_51 : decode cX4_sets 51 = .ok (.iload 5, 2) := by decide +kernel
theorem dX4_sets_53 : decode cX4_sets 53 = .ok (.bipush 6, 2) := by decide +kernel
theorem dX4_sets_55 : decode cX4_sets 55 = .ok (.iadd, 1) := by decide +kernel
theorem dX4_sets_56 : decode cX4_sets 56 = .ok (.iconst 0, 1) := by decide +kernel
theorem dX4_sets_57 : decode cX4_sets 57 = .ok (.iastore, 1) := by decide +kernel
theorem dX4_sets_58 : decode cX4_sets 58 = .ok (.return_, 1) := by decide +kernel
theorem dX4_years_0 : decode cX4_years 0 = .ok (.aload_n 0, 1) := by decide +kernel
theorem dX4_years_1 : decode cX4_years 1 = .ok (.iconst 0, 1) := by decide +kernel
theorem dX4_years_2 : decode cX4_years 2 = .ok (.putfield 88, 3) := by decide +kernel
theorem dX4_years_5 : decode cX4_years 5 = .ok (.aload_n 0, 1) := by decide +kernel
theorem dX4_years_6 : decode cX4_years 6 = .ok (.iload_n 1, 1) := by decide +kernel
theorem dX4_years_7 : decode cX4_years 7 = .ok (.iconst 0, 1) := by decide +kernel
theorem dX4_years_8 : decode cX4_years 8 = .ok (.bipush 100, 2) := by decide +kernel
theorem dX4_years_10 : decode cX4_years 10 = .ok (.invokestatic 94, 3) := by decide +kernel
theorem dX4_years_13 : decode cX4_years 13 = .ok (.ifCond .ne 7, 3) := by decide +kernel
theorem dX4_years_16 : decode cX4_years 16 = .ok (.iconst 1, 1) := by decide +kernel
theorem dX4_years_17 : decode cX4_years 17 = .ok (.goto 4, 3) := by decide +kernel
theorem dX4_years_20 : decode cX4_years 20 = .ok (.iconst 0, 1) := by decide +kernel
theorem dX4_years_21 : decode cX4_years 21 = .ok (.iconst 1, 1) := by decide +kernel
theorem dX4_years_22 : decode cX4_years 22 = .ok (.invokevirtual 105, 3) := by decide +kernel
theorem dX4_years_25 : decode cX4_years 25 = .ok (.ifCond .eq 5, 3) := by decide +kernel
theorem dX4_years_28 : decode cX4_years 28 = .ok (.iconst 0, 1) := by decide +kernel
theorem dX4_years_29 : decode cX4_years 29 = .ok (.ireturn, 1) := by decide +kernel
theorem dX4_years_30 : decode cX4_years 30 = .ok (.aload_n 0, 1) := by decide +kernel
theorem dX4_years_31 : decode cX4_years 31 = .ok (.dup, 1) := by decide +kernel
theorem dX4_years_32 : decode cX4_years 32 = .ok (.getfield 126, 3) := by decide +kernel
theorem dX4_years_35 : decode cX4_years 35 = .ok (.iload_n 1, 1) := by decide +kernel
theorem dX4_years_36 : decode cX4_years 36 = .ok (.iadd, 1) := by decide +kernel
theorem dX4_years_37 : decode cX4_years 37 = .ok (.putfield 126, 3) := by decide +kernel
theorem dX4_years_40 : decode cX4_years 40 = .ok (.aload_n 0, 1) := by decide +kernel
theorem dX4_years_41 : decode cX4_years 41 = .ok (.getfield 126, 3) := by decide +kernel
theorem dX4_years_44 : decode cX4_years 44 = .ok (.ireturn, 1) := by decide +kernel
theorem dX4_collapse_0 : decode cX4_collapse 0 = .ok (.aload_n 0, 1) := by decide +kernel
theorem dX4_collapse_1 : decode cX4_collapse 1 = .ok (.iconst 0, 1) := by decide +kernel
theorem dX4_collapse_2 : decode cX4_collapse 2 = .ok (.putfield 88, 3) := by decide +kernel
theorem dX4_collapse_5 : decode cX4_collapse 5 = .ok (.aload_n 0, 1) := by decide +kernel
theorem dX4_collapse_6 : decode cX4_collapse 6 = .ok (.aload_n 0, 1) := by decide +kernel
theorem dX4_collapse_7 : decode cX4_collapse 7 = .ok (.iload_n 1, 1) := by decide +kernel
theorem dX4_collapse_8 : decode cX4_collapse 8 = .ok (.iload_n 2, 1) := by decide +kernel
theorem dX4_collapse_9 : decode cX4_collapse 9 = .ok (.invokevirtual 136, 3) := by decide +kernel
theorem dX4_collapse_12 : decode cX4_collapse 12 = .ok (.iconst 1, 1) := by decide +kernel
theorem dX4_collapse_13 : decode cX4_collapse 13 = .ok (.invokevirtual 105, 3) := by decide +kernel
theorem dX4_collapse_16 : decode cX4_collapse 16 = .ok (.ifCond .ne 25, 3) := by decide +kernel
theorem dX4_collapse_19 : decode cX4_collapse 19 = .ok (.aload_n 0, 1) := by decide +kernel
theorem dX4_collapse_20 : decode cX4_collapse 20 = .ok (.aload_n 0, 1) := by decide +kernel
theorem dX4_collapse_21 : decode cX4_collapse 21 = .ok (.getfield 20, 3) := by decide +kernel
theorem dX4_collapse_24 : decode cX4_collapse 24 = .ok (.iload_n 1, 1) := by decide +kernel
theorem dX4_collapse_25 : decode cX4_collapse 25 = .ok (.baload, 1) := by decide +kernel
theorem dX4_collapse_26 : decode cX4_collapse 26 = .ok (.ifCond .ne 7, 3) := by decide +kernel
theorem dX4_collapse_29 : decode cX4_collapse 29 = .ok (.iconst 1, 1) := by decide +kernel
theorem dX4_collapse_30 : decode cX4_collapse 30 = .ok (.goto 4, 3) := by decide +kernel
theorem dX4_collapse_33 : decode cX4_collapse 33 = .ok (.iconst 0, 1) := by decide +kernel
theorem dX4_collapse_34 : decode cX4_collapse 34 = .ok (.iconst 2, 1) := by decide +kernel
theorem dX4_collapse_35 : decode cX4_collapse 35 = .ok (.invokevirtual 105, 3) := by decide +kernel
theorem dX4_collapse_38 : decode cX4_collapse 38 = .ok (.ifCond .eq 5, 3) := by decide +kernel
theorem dX4_collapse_41 : decode cX4_collapse 41 = .ok (.iconst 0, 1) := by decide +kernel
theorem dX4_collapse_42 : decode cX4_collapse 42 = .ok (.ireturn, 1) := by decide +kernel
theorem dX4_collapse_43 : decode cX4_collapse 43 = .ok (.aload_n 0, 1) := by decide +kernel
theorem dX4_collapse_44 : decode cX4_collapse 44 = .ok (.getfield 42, 3) := by decide +kernel
theorem dX4_collapse_47 : decode cX4_collapse 47 = .ok (.bipush 20, 2) := by decide +kernel
theorem dX4_collapse_49 : decode cX4_collapse 49 = .ok (.iload_n 1, 1) := by decide +kernel
theorem dX4_collapse_50 : decode cX4_collapse 50 = .ok (.imul, 1) := by decide +kernel
theorem dX4_collapse_51 : decode cX4_collapse 51 = .ok (.iload_n 2, 1) := by decide +kernel
theorem dX4_collapse_52 : decode cX4_collapse 52 = .ok (.iadd, 1) := by decide +kernel
theorem dX4_collapse_53 : decode cX4_collapse 53 = .ok (.baload, 1) := by decide +kernel
theorem dX4_collapse_54 : decode cX4_collapse 54 = .ok (.istore 4, 2) := by decide +kernel
theorem dX4_collapse_56 : decode cX4_collapse 56 = .ok (.aload_n 0, 1) := by decide +kernel
theorem dX4_collapse_57 : decode cX4_collapse 57 = .ok (.getfield 42, 3) := by decide +kernel
theorem dX4_collapse_60 : decode cX4_collapse 60 = .ok (.bipush 20, 2) := by decide +kernel
theorem dX4_collapse_62 : decode cX4_collapse 62 = .ok (.iload_n 1, 1) := by decide +kernel
theorem dX4_collapse_63 : decode cX4_collapse 63 = .ok (.imul, 1) := by decide +kernel
theorem dX4_collapse_64 : decode cX4_collapse 64 = .ok (.iload_n 2, 1) := by decide +kernel
theorem dX4_collapse_65 : decode cX4_collapse 65 = .ok (.iadd, 1) := by decide +kernel
theorem dX4_collapse_66 : decode cX4_collapse 66 = .ok (.iload_n 3, 1) := by decide +kernel
theorem dX4_collapse_67 : decode cX4_collapse 67 = .ok (.bastore, 1) := by decide +kernel
theorem dX4_collapse_68 : decode cX4_collapse 68 = .ok (.iload 4, 2) := by decide +kernel
theorem dX4_collapse_70 : decode cX4_collapse 70 = .ok (.iload_n 3, 1) := by decide +kernel
theorem dX4_collapse_71 : decode cX4_collapse 71 = .ok (.if_icmp .eq 7, 3) := by decide +kernel
theorem dX4_collapse_74 : decode cX4_collapse 74 = .ok (.iconst 1, 1) := by decide +kernel
theorem dX4_collapse_75 : decode cX4_collapse 75 = .ok (.goto 4, 3) := by decide +kernel
theorem dX4_collapse_78 : decode cX4_collapse 78 = .ok (.iconst 0, 1) := by decide +kernel
theorem dX4_collapse_79 : decode cX4_collapse 79 = .ok (.ireturn, 1) := by decide +kernel
theorem dX4_noWell_0 : decode cX4_noWell 0 = .ok (.aload_n 0, 1) := by decide +kernel
theorem dX4_noWell_1 : decode cX4_noWell 1 = .ok (.iload_n 1, 1) := by decide +kernel
theorem dX4_noWell_2 : decode cX4_noWell 2 = .ok (.invokevirtual 98, 3) := by decide +kernel
theorem dX4_noWell_5 : decode cX4_noWell 5 = .ok (.ifCond .ne 19, 3) := by decide +kernel
theorem dX4_noWell_8 : decode cX4_noWell 8 = .ok (.iload_n 2, 1) := by decide +kernel
theorem dX4_noWell_9 : decode cX4_noWell 9 = .ok (.iconst 0, 1) := by decide +kernel
theorem dX4_noWell_10 : decode cX4_noWell 10 = .ok (.aload_n 0, 1) := by decide +kernel
theorem dX4_noWell_11 : decode cX4_noWell 11 = .ok (.getfield 16, 3) := by decide +kernel
theorem dX4_noWell_14 : decode cX4_noWell 14 = .ok (.iload_n 1, 1) := by decide +kernel
theorem dX4_noWell_15 : decode cX4_noWell 15 = .ok (.iaload, 1) := by decide +kernel
theorem dX4_noWell_16 : decode cX4_noWell 16 = .ok (.iconst 1, 1) := by decide +kernel
theorem dX4_noWell_17 : decode cX4_noWell 17 = .ok (.isub, 1) := by decide +kernel
theorem dX4_noWell_18 : decode cX4_noWell 18 = .ok (.invokestatic 94, 3) := by decide +kernel
theorem dX4_noWell_21 : decode cX4_noWell 21 = .ok (.ifCond .ne 7, 3) := by decide +kernel
theorem dX4_noWell_24 : decode cX4_noWell 24 = .ok (.iconst 1, 1) := by decide +kernel
theorem dX4_noWell_25 : decode cX4_noWell 25 = .ok (.goto 4, 3) := by decide +kernel
theorem dX4_noWell_28 : decode cX4_noWell 28 = .ok (.iconst 0, 1) := by decide +kernel
theorem dX4_noWell_29 : decode cX4_noWell 29 = .ok (.ireturn, 1) := by decide +kernel
theorem dX4_flow_0 : decode cX4_flow 0 = .ok (.aload_n 0, 1) := by decide +kernel
theorem dX4_flow_1 : decode cX4_flow 1 = .ok (.iconst 0, 1) := by decide +kernel
theorem dX4_flow_2 : decode cX4_flow 2 = .ok (.putfield 88, 3) := by decide +kernel
theorem dX4_flow_5 : decode cX4_flow 5 = .ok (.aload_n 0, 1) := by decide +kernel
theorem dX4_flow_6 : decode cX4_flow 6 = .ok (.aload_n 0, 1) := by decide +kernel
theorem dX4_flow_7 : decode cX4_flow 7 = .ok (.iload_n 1, 1) := by decide +kernel
theorem dX4_flow_8 : decode cX4_flow 8 = .ok (.invokevirtual 98, 3) := by decide +kernel
theorem dX4_flow_11 : decode cX4_flow 11 = .ok (.iconst 1, 1) := by decide +kernel
theorem dX4_flow_12 : decode cX4_flow 12 = .ok (.invokevirtual 105, 3) := by decide +kernel
theorem dX4_flow_15 : decode cX4_flow 15 = .ok (.ifCond .ne 25, 3) := by decide +kernel
theorem dX4_flow_18 : decode cX4_flow 18 = .ok (.aload_n 0, 1) := by decide +kernel
theorem dX4_flow_19 : decode cX4_flow 19 = .ok (.aload_n 0, 1) := by decide +kernel
theorem dX4_flow_20 : decode cX4_flow 20 = .ok (.getfield 20, 3) := by decide +kernel
theorem dX4_flow_23 : decode cX4_flow 23 = .ok (.iload_n 1, 1) := by decide +kernel
theorem dX4_flow_24 : decode cX4_flow 24 = .ok (.baload, 1) := by decide +kernel
theorem dX4_flow_25 : decode cX4_flow 25 = .ok (.ifCond .ne 7, 3) := by decide +kernel
theorem dX4_flow_28 : decode cX4_flow 28 = .ok (.iconst 1, 1) := by decide +kernel
theorem dX4_flow_29 : decode cX4_flow 29 = .ok (.goto 4, 3) := by decide +kernel
theorem dX4_flow_32 : decode cX4_flow 32 = .ok (.iconst 0, 1) := by decide +kernel
theorem dX4_flow_33 : decode cX4_flow 33 = .ok (.iconst 2, 1) := by decide +kernel
theorem dX4_flow_34 : decode cX4_flow 34 = .ok (.invokevirtual 105, 3) := by decide +kernel
