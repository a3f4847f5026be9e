set_option maxRecDepth 100000
theorem dX0_ground_0 : decode cX0_ground 0 = .ok (.aload_n 0, 1) := by decide +kernel
theorem dX0_ground_1 : decode cX0_ground 1 = .ok (.iload_n 1, 1) := by decide +kernel
theorem dX0_ground_2 : decode cX0_ground 2 = .ok (.iload_n 2, 1) := by decide +kernel
theorem dX0_ground_3 : decode cX0_ground 3 = .ok (.invokevirtual 7, 3) := by decide +kernel
theorem dX0_ground_6 : decode cX0_ground 6 = .ok (.goto 6, 3) := by decide +kernel
theorem dX0_ground_9 : decode cX0_ground 9 = .ok (.astore_n 3, 1) := by decide +kernel
theorem dX0_ground_10 : decode cX0_ground 10 = .ok (.iconst 1, 1) := by decide +kernel
theorem dX0_ground_11 : decode cX0_ground 11 = .ok (.ireturn, 1) := by decide +kernel
theorem dX0_ground_12 : decode cX0_ground 12 = .ok (.iconst 0, 1) := by decide +kernel
theorem dX0_ground_13 : decode cX0_ground 13 = .ok (.ireturn, 1) := by decide +kernel
theorem dX0_channel_0 : decode cX0_channel 0 = .ok (.aload_n 1, 1) := by decide +kernel
theorem dX0_channel_1 : decode cX0_channel 1 = .ok (.iconst 0, 1) := by decide +kernel
theorem dX0_channel_2 : decode cX0_channel 2 = .ok (.aload_n 0, 1) := by decide +kernel
theorem dX0_channel_3 : decode cX0_channel 3 = .ok (.invokevirtual 15, 3) := by decide +kernel
theorem dX0_channel_6 : decode cX0_channel 6 = .ok (.i2l, 1) := by decide +kernel
theorem dX0_channel_7 : decode cX0_channel 7 = .ok (.lastore, 1) := by decide +kernel
theorem dX0_channel_8 : decode cX0_channel 8 = .ok (.goto 6, 3) := by decide +kernel
theorem dX0_channel_11 : decode cX0_channel 11 = .ok (.astore_n 2, 1) := by decide +kernel
theorem dX0_channel_12 : decode cX0_channel 12 = .ok (.iconst 1, 1) := by decide +kernel
theorem dX0_channel_13 : decode cX0_channel 13 = .ok (.ireturn, 1) := by decide +kernel
theorem dX0_channel_14 : decode cX0_channel 14 = .ok (.iconst 0, 1) := by decide +kernel
theorem dX0_channel_15 : decode cX0_channel 15 = .ok (.ireturn, 1) := by decide +kernel
theorem dX0_well_0 : decode cX0_well 0 = .ok (.aload 5, 2) := by decide +kernel
theorem dX0_well_2 : decode cX0_well 2 = .ok (.iconst 0, 1) := by decide +kernel
theorem dX0_well_3 : decode cX0_well 3 = .ok (.aload_n 0, 1) := by decide +kernel
theorem dX0_well_4 : decode cX0_well 4 = .ok (.iload_n 1, 1) := by decide +kernel
theorem dX0_well_5 : decode cX0_well 5 = .ok (.iload_n 2, 1) := by decide +kernel
theorem dX0_well_6 : decode cX0_well 6 = .ok (.iload_n 3, 1) := by decide +kernel
theorem dX0_well_7 : decode cX0_well 7 = .ok (.iload 4, 2) := by decide +kernel
theorem dX0_well_9 : decode cX0_well 9 = .ok (.invokevirtual 21, 3) := by decide +kernel
theorem dX0_well_12 : decode cX0_well 12 = .ok (.i2l, 1) := by decide +kernel
theorem dX0_well_13 : decode cX0_well 13 = .ok (.lastore, 1) := by decide +kernel
theorem dX0_well_14 : decode cX0_well 14 = .ok (.goto 19, 3) := by decide +kernel
theorem dX0_well_17 : decode cX0_well 17 = .ok (.astore 6, 2) := by decide +kernel
theorem dX0_well_19 : decode cX0_well 19 = .ok (.iconst 1, 1) := by decide +kernel
theorem dX0_well_20 : decode cX0_well 20 = .ok (.ireturn, 1) := by decide +kernel
theorem dX0_well_21 : decode cX0_well 21 = .ok (.astore 6, 2) := by decide +kernel
theorem dX0_well_23 : decode cX0_well 23 = .ok (.iconst 2, 1) := by decide +kernel
theorem dX0_well_24 : decode cX0_well 24 = .ok (.ireturn, 1) := by decide +kernel
theorem dX0_well_25 : decode cX0_well 25 = .ok (.astore 6, 2) := by decide +kernel
theorem dX0_well_27 : decode cX0_well 27 = .ok (.iconst 3, 1) := by decide +kernel
theorem dX0_well_28 : decode cX0_well 28 = .ok (.ireturn, 1) := by decide +kernel
theorem dX0_well_29 : decode cX0_well 29 = .ok (.astore 6, 2) := by decide +kernel
theorem dX0_well_31 : decode cX0_well 31 = .ok (.iconst 4, 1) := by decide +kernel
theorem dX0_well_32 : decode cX0_well 32 = .ok (.ireturn, 1) := by decide +kernel
theorem dX0_well_33 : decode cX0_well 33 = .ok (.iconst 0, 1) := by decide +kernel
theorem dX0_well_34 : decode cX0_well 34 = .ok (.ireturn, 1) := by decide +kernel
theorem dX0_may_0 : decode cX0_may 0 = .ok (.aload_n 2, 1) := by decide +kernel
theorem dX0_may_1 : decode cX0_may 1 = .ok (.iconst 0, 1) := by decide +kernel
theorem dX0_may_2 : decode cX0_may 2 = .ok (.aload_n 0, 1) := by decide +kernel
theorem dX0_may_3 : decode cX0_may 3 = .ok (.iload_n 1, 1) := by decide +kernel
theorem dX0_may_4 : decode cX0_may 4 = .ok (.invokevirtual 29, 3) := by decide +kernel
theorem dX0_may_7 : decode cX0_may 7 = .ok (.ifCond .eq 7, 3) := by decide +kernel
theorem dX0_may_10 : decode cX0_may 10 = .ok (.lconst 1, 1) := by decide +kernel
theorem dX0_may_11 : decode cX0_may 11 = .ok (.goto 4, 3) := by decide +kernel
theorem dX0_may_14 : decode cX0_may 14 = .ok (.lconst 0, 1) := by decide +kernel
theorem dX0_may_15 : decode cX0_may 15 = .ok (.lastore, 1) := by decide +kernel
theorem dX0_may_16 : decode cX0_may 16 = .ok (.goto 9, 3) := by decide +kernel
theorem dX0_may_19 : decode cX0_may 19 = .ok (.astore_n 3, 1) := by decide +kernel
theorem dX0_may_20 : decode cX0_may 20 = .ok (.iconst 1, 1) := by decide +kernel
theorem dX0_may_21 : decode cX0_may 21 = .ok (.ireturn, 1) := by decide +kernel
theorem dX0_may_22 : decode cX0_may 22 = .ok (.astore_n 3, 1) := by decide +kernel
theorem dX0_may_23 : decode cX0_may 23 = .ok (.iconst 2, 1) := by decide +kernel
theorem dX0_may_24 : decode cX0_may 24 = .ok (.ireturn, 1) := by decide +kernel
theorem dX0_may_25 : decode cX0_may 25 = .ok (.iconst 0, 1) := by decide +kernel
theorem dX0_may_26 : decode cX0_may 26 = .ok (.ireturn, 1) := by decide +kernel
theorem dX0_dig_0 : decode cX0_dig 0 = .ok (.aload 4, 2) := by decide +kernel
theorem dX0_dig_2 : decode cX0_dig 2 = .ok (.iconst 0, 1) := by decide +kernel
theorem dX0_dig_3 : decode cX0_dig 3 = .ok (.aload_n 0, 1) := by decide +kernel
theorem dX0_dig_4 : decode cX0_dig 4 = .ok (.iload_n 1, 1) := by decide +kernel
theorem dX0_dig_5 : decode cX0_dig 5 = .ok (.iload_n 2, 1) := by decide +kernel
theorem dX0_dig_6 : decode cX0_dig 6 = .ok (.iload_n 3, 1) := by decide +kernel
theorem dX0_dig_7 : decode cX0_dig 7 = .ok (.invokevirtual 33, 3) := by decide +kernel
theorem dX0_dig_10 : decode cX0_dig 10 = .ok (.i2l, 1) := by decide +kernel
theorem dX0_dig_11 : decode cX0_dig 11 = .ok (.lastore, 1) := by decide +kernel
theorem dX0_dig_12 : decode cX0_dig 12 = .ok (.goto 15, 3) := by decide +kernel
theorem dX0_dig_15 : decode cX0_dig 15 = .ok (.astore 5, 2) := by decide +kernel
theorem dX0_dig_17 : decode cX0_dig 17 = .ok (.iconst 1, 1) := by decide +kernel
theorem dX0_dig_18 : decode cX0_dig 18 = .ok (.ireturn, 1) := by decide +kernel
theorem dX0_dig_19 : decode cX0_dig 19 = .ok (.astore 5, 2) := by decide +kernel
theorem dX0_dig_21 : decode cX0_dig 21 = .ok (.iconst 2, 1) := by decide +kernel
theorem dX0_dig_22 : decode cX0_dig 22 = .ok (.ireturn, 1) := by decide +kernel
theorem dX0_dig_23 : decode cX0_dig 23 = .ok (.astore 5, 2) := by decide +kernel
theorem dX0_dig_25 : decode cX0_dig 25 = .ok (.iconst 3, 1) := by decide +kernel
theorem dX0_dig_26 : decode cX0_dig 26 = .ok (.ireturn, 1) := by decide +kernel
theorem dX0_dig_27 : decode cX0_dig 27 = .ok (.iconst 0, 1) := by decide +kernel
theorem dX0_dig_28 : decode cX0_dig 28 = .ok (.ireturn, 1) := by decide +kernel
theorem dX0_years_0 : decode cX0_years 0 = .ok (.aload_n 2, 1) := by decide +kernel
theorem dX0_years_1 : decode cX0_years 1 = .ok (.iconst 0, 1) := by decide +kernel
theorem dX0_years_2 : decode cX0_years 2 = .ok (.aload_n 0, 1) := by decide +kernel
theorem dX0_years_3 : decode cX0_years 3 = .ok (.iload_n 1, 1) := by decide +kernel
theorem dX0_years_4 : decode cX0_years 4 = .ok (.invokevirtual 37, 3) := by decide +kernel
theorem dX0_years_7 : decode cX0_years 7 = .ok (.i2l, 1) := by decide +kernel
theorem dX0_years_8 : decode cX0_years 8 = .ok (.lastore, 1) := by decide +kernel
theorem dX0_years_9 : decode cX0_years 9 = .ok (.goto 6, 3) := by decide +kernel
theorem dX0_years_12 : decode cX0_years 12 = .ok (.astore_n 3, 1) := by decide +kernel
theorem dX0_years_13 : decode cX0_years 13 = .ok (.iconst 1, 1) := by decide +kernel
theorem dX0_years_14 : decode cX0_years 14 = .ok (.ireturn, 1) := by decide +kernel
theorem dX0_years_15 : decode cX0_years 15 = .ok (.iconst 0, 1) := by decide +kernel
theorem dX0_years_16 : decode cX0_years 16 = .ok (.ireturn, 1) := by decide +kernel
theorem dX0_collapse_0 : decode cX0_collapse 0 = .ok (.aload 4, 2) := by decide +kernel
theorem dX0_collapse_2 : decode cX0_collapse 2 = .ok (.iconst 0, 1) := by decide +kernel
theorem dX0_collapse_3 : decode cX0_collapse 3 = .ok (.aload_n 0, 1) := by decide +kernel
theorem dX0_collapse_4 : decode cX0_collapse 4 = .ok (.iload_n 1, 1) := by decide +kernel
theorem dX0_collapse_5 : decode cX0_collapse 5 = .ok (.iload_n 2, 1) := by decide +kernel
theorem dX0_collapse_6 : decode cX0_collapse 6 = .ok (.iload_n 3, 1) := by decide +kernel
theorem dX0_collapse_7 : decode cX0_collapse 7 = .ok (.invokevirtual 41, 3) := by decide +kernel
theorem dX0_collapse_10 : decode cX0_collapse 10 = .ok (.ifCond .eq 7, 3) := by decide +kernel
theorem dX0_collapse_13 : decode cX0_collapse 13 = .ok (.lconst 1, 1) := by decide +kernel
theorem dX0_collapse_14 : decode cX0_collapse 14 = .ok (.goto 4, 3) := by decide +kernel
theorem dX0_collapse_17 : decode cX0_collapse 17 = .ok (.lconst 0, 1) := by decide +kernel
theorem dX0_collapse_18 : decode cX0_collapse 18 = .ok (.lastore, 1) := by decide +kernel
theorem dX0_collapse_19 : decode cX0_collapse 19 = .ok (.goto 11, 3) := by decide +kernel
theorem dX0_collapse_22 : decode cX0_collapse 22 = .ok (.astore 5, 2) := by decide +kernel
theorem dX0_collapse_24 : decode cX0_collapse 24 = .ok (.iconst 1, 1) := by decide +kernel
theorem dX0_collapse_25 : decode cX0_collapse 25 = .ok (.ireturn, 1) := by decide +kernel
theorem dX0_collapse_26 : decode cX0_collapse 26 = .ok (.astore 5, 2) := by decide +kernel
theorem dX0_collapse_28 : decode cX0_collapse 28 = .ok (.iconst 2, 1) := by decide +kernel
theorem dX0_collapse_29 : decode cX0_collapse 29 = .ok (.ireturn, 1) := by decide +kernel
theorem dX0_collapse_30 : decode cX0_collapse 30 = .ok (.iconst 0, 1) := by decide +kernel
theorem dX0_collapse_31 : decode cX0_collapse 31 = .ok (.ireturn, 1) := by decide +kernel
theorem dX0_flow_0 : decode cX0_flow 0 = .ok (.aload_n 2, 1) := by decide +kernel
theorem dX0_flow_1 : decode cX0_flow 1 = .ok (.iconst 0, 1) := by decide +kernel
theorem dX0_flow_2 : decode cX0_flow 2 = .ok (.aload_n 0, 1) := by decide +kernel
theorem dX0_flow_3 : decode cX0_flow 3 = .ok (.iload_n 1, 1) := by decide +kernel
theorem dX0_flow_4 : decode cX0_flow 4 = .ok (.invokevirtual 45, 3) := by decide +kernel
theorem dX0_flow_7 : decode cX0_flow 7 = .ok (.i2l, 1) := by decide +kernel
theorem dX0_flow_8 : decode cX0_flow 8 = .ok (.lastore, 1) := by decide +kernel
theorem dX0_flow_9 : decode cX0_flow 9 = .ok (.goto 9, 3) := by decide +kernel
theorem dX0_flow_12 : decode cX0_flow 12 = .ok (.astore_n 3, 1) := by decide +kernel
theorem dX0_flow_13 : decode cX0_flow 13 = .ok (.iconst 1, 1) := by decide +kernel
theorem dX0_flow_14 : decode cX0_flow 14 = .ok (.ireturn, 1) := by decide +kernel
theorem dX0_flow_15 : decode cX0_flow 15 = .ok (.astore_n 3, 1) := by decide +kernel
theorem dX0_flow_16 : decode cX0_flow 16 = .ok (.iconst 2, 1) := by decide +kernel
theorem dX0_flow_17 : decode cX0_flow 17 = .ok (.ireturn, 1) := by decide +kernel
theorem dX0_flow_18 : decode cX0_flow 18 = .ok (.iconst 0, 1) := by decide +kernel
theorem dX0_flow_19 : decode cX0_flow 19 = .ok (.ireturn, 1) := by decide +kernel
theorem dX0_harm_0 : decode cX0_harm 0 = .ok (.aload_n 2, 1) := by decide +kernel
theorem dX0_harm_1 : decode cX0_harm 1 = .ok (.iconst 0, 1) := by decide +kernel
theorem dX0_harm_2 : decode cX0_harm 2 = .ok (.aload_n 0, 1) := by decide +kernel
theorem dX0_harm_3 : decode cX0_harm 3 = .ok (.iload_n 1, 1) := by decide +kernel
theorem dX0_harm_4 : decode cX0_harm 4 = .ok (.invokevirtual 48, 3) := by decide +kernel
theorem dX0_harm_7 : decode cX0_harm 7 = .ok (.i2l, 1) := by decide +kernel
theorem dX0_harm_8 : decode cX0_harm 8 = .ok (.lastore, 1) := by decide +kernel
theorem dX0_harm_9 : decode cX0_harm 9 = .ok (.goto 9, 3) := by decide +kernel
theorem dX0_harm_12 : decode cX0_harm 12 = .ok (.astore_n 3, 1) := by decide +kernel
theorem dX0_harm_13 : decode cX0_harm 13 = .ok (.iconst 1, 1) := by decide +kernel
theorem dX0_harm_14 : decode cX0_harm 14 = .ok (.ireturn, 1) := by decide +kernel
theorem dX0_harm_15 : decode cX0_harm 15 = .ok (.astore_n 3, 1) := by decide +kernel
theorem dX0_harm_16 : decode cX0_harm 16 = .ok (.iconst 2, 1) := by decide +kernel
theorem dX0_harm_17 : decode cX0_harm 17 = .ok (.ireturn, 1) := by decide +kernel
theorem dX0_harm_18 : decode cX0_harm 18 = .ok (.iconst 0, 1) := by decide +kernel
theorem dX0_harm_19 : decode cX0_harm 19 = .ok (.ireturn, 1) := by decide +kernel
theorem dX0_seep_0 : decode cX0_seep 0 = .ok (.aload_n 3, 1) := by decide +kernel
theorem dX0_seep_1 : decode cX0_seep 1 = .ok (.iconst 0, 1) := by decide +kernel
theorem dX0_seep_2 : decode cX0_seep 2 = .ok (.aload_n 0, 1) := by decide +kernel
theorem dX0_seep_3 : decode cX0_seep 3 = .ok (.iload_n 1, 1) := by decide +kernel
theorem dX0_seep_4 : decode cX0_seep 4 = .ok (.iload_n 2, 1) := by decide +kernel
theorem dX0_seep_5 : decode cX0_seep 5 = .ok (.invokevirtual 51, 3) := by decide +kernel
theorem dX0_seep_8 : decode cX0_seep 8 = .ok (.i2l, 1) := by decide +kernel
theorem dX0_seep_9 : decode cX0_seep 9 = .ok (.lastore, 1) := by decide +kernel
theorem dX0_seep_10 : decode cX0_seep 10 = .ok (.goto 11, 3) := by decide +kernel
theorem dX0_seep_13 : decode cX0_seep 13 = .ok (.astore 4, 2) := by decide +kernel
theorem dX0_seep_15 : decode cX0_seep 15 = .ok (.iconst 1, 1) := by decide +kernel
theorem dX0_seep_16 : decode cX0_seep 16 = .ok (.ireturn, 1) := by decide +kernel
theorem dX0_seep_17 : decode cX0_seep 17 = .ok (.astore 4, 2) := by decide +kernel
theorem dX0_seep_19 : decode cX0_seep 19 = .ok (.iconst 2, 1) := by decide +kernel
theorem dX0_seep_20 : decode cX0_seep 20 = .ok (.ireturn, 1) := by decide +kernel
theorem dX0_seep_21 : decode cX0_seep 21 = .ok (.iconst 0, 1) := by decide +kernel
theorem dX0_seep_22 : decode cX0_seep 22 = .ok (.ireturn, 1) := by decide +kernel
theorem dX0_sell_0 : decode cX0_sell 0 = .ok (.aload_n 0, 1) := by decide +kernel
theorem dX0_sell_1 : decode cX0_sell 1 = .ok (.iload_n 1, 1) := by decide +kernel
theorem dX0_sell_2 : decode cX0_sell 2 = .ok (.iload_n 2, 1) := by decide +kernel
theorem dX0_sell_3 : decode cX0_sell 3 = .ok (.iload_n 3, 1) := by decide +kernel
theorem dX0_sell_4 : decode cX0_sell 4 = .ok (.iload 4, 2) := by decide +kernel
theorem dX0_sell_6 : decode cX0_sell 6 = .ok (.invokevirtual 55, 3) := by decide +kernel
theorem dX0_sell_9 : decode cX0_sell 9 = .ok (.goto 19, 3) := by decide +kernel
theorem dX0_sell_12 : decode cX0_sell 12 = .ok (.astore 5, 2) := by decide +kernel
theorem dX0_sell_14 : decode cX0_sell 14 = .ok (.iconst 1, 1) := by decide +kernel
theorem dX0_sell_15 : decode cX0_sell 15 = .ok (.ireturn, 1) := by decide +kernel
theorem dX0_sell_16 : decode cX0_sell 16 = .ok (.astore 5, 2) := by decide +kernel
theorem dX0_sell_18 : decode cX0_sell 18 = .ok (.iconst 2, 1) := by decide +kernel
theorem dX0_sell_19 : decode cX0_sell 19 = .ok (.ireturn, 1) := by decide +kernel
theorem dX0_sell_20 : decode cX0_sell 20 = .ok (.astore 5, 2) := by decide +kernel
theorem dX0_sell_22 : decode cX0_sell 22 = .ok (.iconst 3, 1) := by decide +kernel
theorem dX0_sell_23 : decode cX0_sell 23 = .ok (.ireturn, 1) := by decide +kernel
theorem dX0_sell_24 : decode cX0_sell 24 = .ok (.astore 5, 2) := by decide +kernel
theorem dX0_sell_26 : decode cX0_sell 26 = .ok (.iconst 4, 1) := by decide +kernel
theorem dX0_sell_27 : decode cX0_sell 27 = .ok (.ireturn, 1) := by decide +kernel
theorem dX0_sell_28 : decode cX0_sell 28 = .ok (.iconst 0, 1) := by decide +kernel
theorem dX0_sell_29 : decode cX0_sell 29 = .ok (.ireturn, 1) := by decide +kernel
theorem dX0_heirs_0 : decode cX0_heirs 0 = .ok (.aload 11, 2) := by decide +kernel
theorem dX0_heirs_2 : decode cX0_heirs 2 = .ok (.iconst 0, 1) := by decide +kernel
theorem dX0_heirs_3 : decode cX0_heirs 3 = .ok (.aload_n 0, 1) := by decide +kernel
theorem dX0_heirs_4 : decode cX0_heirs 4 = .ok (.iload_n 1, 1) := by decide +kernel
theorem dX0_heirs_5 : decode cX0_heirs 5 = .ok (.iload_n 2, 1) := by decide +kernel
theorem dX0_heirs_6 : decode cX0_heirs 6 = .ok (.iload_n 3, 1) := by decide +kernel
theorem dX0_heirs_7 : decode cX0_heirs 7 = .ok (.iload 4, 2) := by decide +kernel
theorem dX0_heirs_9 : decode cX0_heirs 9 = .ok (.iload 5, 2) := by decide +kernel
theorem dX0_heirs_11 : decode cX0_heirs 11 = .ok (.iload 6, 2) := by decide +kernel
theorem dX0_heirs_13 : decode cX0_heirs 13 = .ok (.iload 7, 2) := by decide +kernel
theorem dX0_heirs_15 : decode cX0_heirs 15 = .ok (.iload 8, 2) := by decide +kernel
theorem dX0_heirs_17 : decode cX0_heirs 17 = .ok (.iload 9, 2) := by decide +kernel
theorem dX0_heirs_19 : decode cX0_heirs 19 = .ok (.iload 10, 2) := by decide +kernel
theorem dX0_heirs_21 : decode cX0_heirs 21 = .ok (.invokevirtual 59, 3) := by decide +kernel
theorem dX0_heirs_24 : decode cX0_heirs 24 = .ok (.i2l, 1) := by decide +kernel
theorem dX0_heirs_25 : decode cX0_heirs 25 = .ok (.lastore, 1) := by decide +kernel
theorem dX0_heirs_26 : decode cX0_heirs 26 = .ok (.goto 19, 3) := by decide +kernel
theorem dX0_heirs_29 : decode cX0_heirs 29 = .ok (.astore 12, 2) := by decide +kernel
theorem dX0_heirs_31 : decode cX0_heirs 31 = .ok (.iconst 1, 1) := by decide +kernel
theorem dX0_heirs_32 : decode cX0_heirs 32 = .ok (.ireturn, 1) := by decide +kernel
theorem dX0_heirs_33 : decode cX0_heirs 33 = .ok (.astore 12, 2) := by decide +kernel
theorem dX0_heirs_35 : decode cX0_heirs 35 = .ok (.iconst 2, 1) := by decide +kernel
theorem dX0_heirs_36 : decode cX0_heirs 36 = .ok (.ireturn, 1) := by decide +kernel
theorem dX0_heirs_37 : decode cX0_heirs 37 = .ok (.astore 12, 2) := by decide +kernel
theorem dX0_heirs_39 : decode cX0_heirs 39 = .ok (.iconst 3, 1) := by decide +kernel
theorem dX0_heirs_40 : decode cX0_heirs 40 = .ok (.ireturn, 1) := by decide +kernel
theorem dX0_heirs_41 : decode cX0_heirs 41 = .ok (.astore 12, 2) := by decide +kernel
theorem dX0_heirs_43 : decode cX0_heirs 43 = .ok (.iconst 4, 1) := by decide +kernel
theorem dX0_heirs_44 : decode cX0_heirs 44 = .ok (.ireturn, 1) := by decide +kernel
theorem dX0_heirs_45 : decode cX0_heirs 45 = .ok (.iconst 0, 1) := by decide +kernel
theorem dX0_heirs_46 : decode cX0_heirs 46 = .ok (.ireturn, 1) := by decide +kernel
theorem dX0_let_0 : decode cX0_let 0 = .ok (.aload_n 0, 1) := by decide +kernel
theorem dX0_let_1 : decode cX0_let 1 = .ok (.iload_n 1, 1) := by decide +kernel
theorem dX0_let_2 : decode cX0_let 2 = .ok (.iload_n 2, 1) := by decide +kernel
theorem dX0_let_3 : decode cX0_let 3 = .ok (.iload_n 3, 1) := by decide +kernel
theorem dX0_let_4 : decode cX0_let 4 = .ok (.iload 4, 2) := by decide +kernel
theorem dX0_let_6 : decode cX0_let 6 = .ok (.invokevirtual 63, 3) := by decide +kernel
theorem dX0_let_9 : decode cX0_let 9 = .ok (.goto 15, 3) := by decide +kernel
theorem dX0_let_12 : decode cX0_let 12 = .ok (.astore 5, 2) := by decide +kernel
theorem dX0_let_14 : decode cX0_let 14 = .ok (.iconst 1, 1) := by decide +kernel
theorem dX0_let_15 : decode cX0_let 15 = .ok (.ireturn, 1) := by decide +kernel
theorem dX0_let_16 : decode cX0_let 16 = .ok (.astore 5, 2) := by decide +kernel
theorem dX0_let_18 : decode cX0_let 18 = .ok (.iconst 2, 1) := by decide +kernel
theorem dX0_let_19 : decode cX0_let 19 = .ok (.ireturn, 1) := by decide +kernel
theorem dX0_let_20 : decode cX0_let 20 = .ok (.astore 5, 2) := by decide +kernel
theorem dX0_let_22 : decode cX0_let 22 = .ok (.iconst 3, 1) := by decide +kernel
theorem dX0_let_23 : decode cX0_let 23 = .ok (.ireturn, 1) := by decide +kernel
theorem dX0_let_24 : decode cX0_let 24 = .ok (.iconst 0, 1) := by decide +kernel
theorem dX0_let_25 : decode cX0_let 25 = .ok (.ireturn, 1) := by decide +kernel
theorem dX0_minutes_0 : decode cX0_minutes 0 = .ok (.aload_n 2, 1) := by decide +kernel
theorem dX0_minutes_1 : decode cX0_minutes 1 = .ok (.iconst 0, 1) := by decide +kernel
theorem dX0_minutes_2 : decode cX0_minutes 2 = .ok (.aload_n 0, 1) := by decide +kernel
theorem dX0_minutes_3 : decode cX0_minutes 3 = .ok (.iload_n 1, 1) := by decide +kernel
theorem dX0_minutes_4 : decode cX0_minutes 4 = .ok (.invokevirtual 66, 3) := by decide +kernel
theorem dX0_minutes_7 : decode cX0_minutes 7 = .ok (.i2l, 1) := by decide +kernel
theorem dX0_minutes_8 : decode cX0_minutes 8 = .ok (.lastore, 1) := by decide +kernel
theorem dX0_minutes_9 : decode cX0_minutes 9 = .ok (.goto 6, 3) := by decide +kernel
theorem dX0_minutes_12 : decode cX0_minutes 12 = .ok (.astore_n 3, 1) := by decide +kernel
theorem dX0_minutes_13 : decode cX0_minutes 13 = .ok (.iconst 1, 1) := by decide +kernel
theorem dX0_minutes_14 : decode cX0_minutes 14 = .ok (.ireturn, 1) := by decide +kernel
theorem dX0_minutes_15 : decode cX0_minutes 15 = .ok (.iconst 0, 1) := by decide +kernel
theorem dX0_minutes_16 : decode cX0_minutes 16 = .ok (.ireturn, 1) := by decide +kernel
theorem dX0_holder_0 : decode cX0_holder 0 = .ok (.aload_n 3, 1) := by decide +kernel
theorem dX0_holder_1 : decode cX0_holder 1 = .ok (.iconst 0, 1) := by decide +kernel
theorem dX0_holder_2 : decode cX0_holder 2 = .ok (.aload_n 0, 1) := by decide +kernel
theorem dX0_holder_3 : decode cX0_holder 3 = .ok (.iload_n 1, 1) := by decide +kernel
theorem dX0_holder_4 : decode cX0_holder 4 = .ok (.iload_n 2, 1) := by decide +kernel
theorem dX0_holder_5 : decode cX0_holder 5 = .ok (.invokevirtual 69, 3) := by decide +kernel
theorem dX0_holder_8 : decode cX0_holder 8 = .ok (.i2l, 1) := by decide +kernel
theorem dX0_holder_9 : decode cX0_holder 9 = .ok (.lastore, 1) := by decide +kernel
theorem dX0_holder_10 : decode cX0_holder 10 = .ok (.goto 11, 3) := by decide +kernel
theorem dX0_holder_13 : decode cX0_holder 13 = .ok (.astore 4, 2) := by decide +kernel
theorem dX0_holder_15 : decode cX0_holder 15 = .ok (.iconst 1, 1) := by decide +kernel
theorem dX0_holder_16 : decode cX0_holder 16 = .ok (.ireturn, 1) := by decide +kernel
theorem dX0_holder_17 : decode cX0_holder 17 = .ok (.astore 4, 2) := by decide +kernel
theorem dX0_holder_19 : decode cX0_holder 19 = .ok (.iconst 2, 1) := by decide +kernel
theorem dX0_holder_20 : decode cX0_holder 20 = .ok (.ireturn, 1) := by decide +kernel
theorem dX0_holder_21 : decode cX0_holder 21 = .ok (.iconst 0, 1) := by decide +kernel
theorem dX0_holder_22 : decode cX0_holder 22 = .ok (.ireturn, 1) := by decide +kernel
theorem dX0_share_0 : decode cX0_share 0 = .ok (.aload_n 3, 1) := by decide +kernel
theorem dX0_share_1 : decode cX0_share 1 = .ok (.iconst 0, 1) := by decide +kernel
theorem dX0_share_2 : decode cX0_share 2 = .ok (.aload_n 0, 1) := by decide +kernel
theorem dX0_share_3 : decode cX0_share 3 = .ok (.iload_n 1, 1) := by decide +kernel
theorem dX0_share_4 : decode cX0_share 4 = .ok (.iload_n 2, 1) := by decide +kernel
theorem dX0_share_5 : decode cX0_share 5 = .ok (.invokevirtual 72, 3) := by decide +kernel
theorem dX0_share_8 : decode cX0_share 8 = .ok (.i2l, 1) := by decide +kernel
theorem dX0_share_9 : decode cX0_share 9 = .ok (.lastore, 1) := by decide +kernel
theorem dX0_share_10 : decode cX0_share 10 = .ok (.goto 11, 3) := by decide +kernel
theorem dX0_share_13 : decode cX0_share 13 = .ok (.astore 4, 2) := by decide +kernel
theorem dX0_share_15 : decode cX0_share 15 = .ok (.iconst 1, 1) := by decide +kernel
theorem dX0_share_16 : decode cX0_share 16 = .ok (.ireturn, 1) := by decide +kernel
theorem dX0_share_17 : decode cX0_share 17 = .ok (.astore 4, 2) := by decide +kernel
theorem dX0_share_19 : decode cX0_share 19 = .ok (.iconst 2, 1) := by decide +kernel
theorem dX0_share_20 : decode cX0_share 20 = .ok (.ireturn, 1) := by decide +kernel
theorem dX0_share_21 : decode cX0_share 21 = .ok (.iconst 0, 1) := by decide +kernel
theorem dX0_share_22 : decode cX0_share 22 = .ok (.ireturn, 1) := by decide +kernel
theorem dX0_law_0 : decode cX0_law 0 = .ok (.aload_n 1, 1) := by decide +kernel
theorem dX0_law_1 : decode cX0_law 1 = .ok (.iconst 0, 1) := by decide +kernel
theorem dX0_law_2 : decode cX0_law 2 = .ok (.aload_n 0, 1) := by decide +kernel
theorem dX0_law_3 : decode cX0_law 3 = .ok (.invokevirtual 77, 3) := by decide +kernel
theorem dX0_law_6 : decode cX0_law 6 = .ok (.i2l, 1) := by decide +kernel
theorem dX0_law_7 : decode cX0_law 7 = .ok (.lastore, 1) := by decide +kernel
theorem dX0_law_8 : decode cX0_law 8 = .ok (.goto 6, 3) := by decide +kernel
theorem dX0_law_11 : decode cX0_law 11 = .ok (.astore_n 2, 1) := by decide +kernel
theorem dX0_law_12 : decode cX0_law 12 = .ok (.iconst 1, 1) := by decide +kernel
theorem dX0_law_13 : decode cX0_law 13 = .ok (.ireturn, 1) := by decide +kernel
theorem dX0_law_14 : decode cX0_law 14 = .ok (.iconst 0, 1) := by decide +kernel
theorem dX0_law_15 : decode cX0_law 15 = .ok (.ireturn, 1) := by decide +kernel
theorem dX0_says_0 : decode cX0_says 0 = .ok (.aload_n 2, 1) := by decide +kernel
theorem dX0_says_1 : decode cX0_says 1 = .ok (.iconst 0, 1) := by decide +kernel
theorem dX0_says_2 : decode cX0_says 2 = .ok (.aload_n 0, 1) := by decide +kernel
theorem dX0_says_3 : decode cX0_says 3 = .ok (.iload_n 1, 1) := by decide +kernel
theorem dX0_says_4 : decode cX0_says 4 = .ok (.invokevirtual 80, 3) := by decide +kernel
theorem dX0_says_7 : decode cX0_says 7 = .ok (.i2l, 1) := by decide +kernel
theorem dX0_says_8 : decode cX0_says 8 = .ok (.lastore, 1) := by decide +kernel
theorem dX0_says_9 : decode cX0_says 9 = .ok (.goto 6, 3) := by decide +kernel
theorem dX0_says_12 : decode cX0_says 12 = .ok (.astore_n 3, 1) := by decide +kernel
theorem dX0_says_13 : decode cX0_says 13 = .ok (.iconst 1, 1) := by decide +kernel
theorem dX0_says_14 : decode cX0_says 14 = .ok (.ireturn, 1) := by decide +kernel
theorem dX0_says_15 : decode cX0_says 15 = .ok (.iconst 0, 1) := by decide +kernel
theorem dX0_says_16 : decode cX0_says 16 = .ok (.ireturn, 1) := by decide +kernel
theorem dX0_pays_0 : decode cX0_pays 0 = .ok (.aload 4, 2) := by decide +kernel
theorem dX0_pays_2 : decode cX0_pays 2 = .ok (.iconst 0, 1) := by decide +kernel
theorem dX0_pays_3 : decode cX0_pays 3 = .ok (.aload_n 0, 1) := by decide +kernel
theorem dX0_pays_4 : decode cX0_pays 4 = .ok (.iload_n 1, 1) := by decide +kernel
theorem dX0_pays_5 : decode cX0_pays 5 = .ok (.iload_n 2, 1) := by decide +kernel
theorem dX0_pays_6 : decode cX0_pays 6 = .ok (.iload_n 3, 1) := by decide +kernel
theorem dX0_pays_7 : decode cX0_pays 7 = .ok (.invokevirtual 83, 3) := by decide +kernel
theorem dX0_pays_10 : decode cX0_pays 10 = .ok (.i2l, 1) := by decide +kernel
theorem dX0_pays_11 : decode cX0_pays 11 = .ok (.lastore, 1) := by decide +kernel
theorem dX0_pays_12 : decode cX0_pays 12 = .ok (.goto 15, 3) := by decide +kernel
theorem dX0_pays_15 : decode cX0_pays 15 = .ok (.astore 5, 2) := by decide +kernel
theorem dX0_pays_17 : decode cX0_pays 17 = .ok (.iconst 1, 1) := by decide +kernel
theorem dX0_pays_18 : decode cX0_pays 18 = .ok (.ireturn, 1) := by decide +kernel
theorem dX0_pays_19 : decode cX0_pays 19 = .ok (.astore 5, 2) := by decide +kernel
theorem dX0_pays_21 : decode cX0_pays 21 = .ok (.iconst 2, 1) := by decide +kernel
theorem dX0_pays_22 : decode cX0_pays 22 = .ok (.ireturn, 1) := by decide +kernel
theorem dX0_pays_23 : decode cX0_pays 23 = .ok (.astore 5, 2) := by decide +kernel
theorem dX0_pays_25 : decode cX0_pays 25 = .ok (.iconst 3, 1) := by decide +kernel
theorem dX0_pays_26 : decode cX0_pays 26 = .ok (.ireturn, 1) := by decide +kernel
theorem dX0_pays_27 : decode cX0_pays 27 = .ok (.iconst 0, 1) := by decide +kernel
theorem dX0_pays_28 : decode cX0_pays 28 = .ok (.ireturn, 1) := by decide +kernel
theorem dX0_field_0 : decode cX0_field 0 = .ok (.aload 4, 2) := by decide +kernel
theorem dX0_field_2 : decode cX0_field 2 = .ok (.iconst 0, 1) := by decide +kernel
theorem dX0_field_3 : decode cX0_field 3 = .ok (.aload_n 0, 1) := by decide +kernel
theorem dX0_field_4 : decode cX0_field 4 = .ok (.iload_n 1, 1) := by decide +kernel
theorem dX0_field_5 : decode cX0_field 5 = .ok (.iload_n 2, 1) := by decide +kernel
theorem dX0_field_6 : decode cX0_field 6 = .ok (.iload_n 3, 1) := by decide +kernel
theorem dX0_field_7 : decode cX0_field 7 = .ok (.invokevirtual 86, 3) := by decide +kernel
theorem dX0_field_10 : decode cX0_field 10 = .ok (.i2l, 1) := by decide +kernel
theorem dX0_field_11 : decode cX0_field 11 = .ok (.lastore, 1) := by decide +kernel
theorem dX0_field_12 : decode cX0_field 12 = .ok (.goto 7, 3) := by decide +kernel
theorem dX0_field_15 : decode cX0_field 15 = .ok (.astore 5, 2) := by decide +kernel
theorem dX0_field_17 : decode cX0_field 17 = .ok (.iconst 1, 1) := by decide +kernel
theorem dX0_field_18 : decode cX0_field 18 = .ok (.ireturn, 1) := by decide +kernel
theorem dX0_field_19 : decode cX0_field 19 = .ok (.iconst 0, 1) := by decide +kernel
theorem dX0_field_20 : decode cX0_field 20 = .ok (.ireturn, 1) := by decide +kernel
