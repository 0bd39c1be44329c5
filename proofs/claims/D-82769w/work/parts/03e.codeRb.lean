/-! method names and decode rows: X2 X3 X4 X6 X7 X8 X9 X10 X11 X12 X13 X14 X15 X16 X17 X0 -/
set_option maxRecDepth 100000
theorem dX0_person_4 : decode cX0_person 4 = .ok (.iload_n 1, 1) := by decide +kernel
theorem dX0_person_5 : decode cX0_person 5 = .ok (.iload_n 2, 1) := by decide +kernel
theorem dX0_person_6 : decode cX0_person 6 = .ok (.iload_n 3, 1) := by decide +kernel
theorem dX0_person_7 : decode cX0_person 7 = .ok (.iload 4, 2) := by decide +kernel
theorem dX0_person_9 : decode cX0_person 9 = .ok (.iload 5, 2) := by decide +kernel
theorem dX0_person_11 : decode cX0_person 11 = .ok (.iload 6, 2) := by decide +kernel
theorem dX0_person_13 : decode cX0_person 13 = .ok (.iload 7, 2) := by decide +kernel
theorem dX0_person_15 : decode cX0_person 15 = .ok (.invokevirtual 17, 3) := by decide +kernel
theorem dX0_person_18 : decode cX0_person 18 = .ok (.i2l, 1) := by decide +kernel
theorem dX0_person_19 : decode cX0_person 19 = .ok (.lastore, 1) := by decide +kernel
theorem dX0_person_20 : decode cX0_person 20 = .ok (.goto 11, 3) := by decide +kernel
theorem dX0_person_23 : decode cX0_person 23 = .ok (.astore 9, 2) := by decide +kernel
theorem dX0_person_25 : decode cX0_person 25 = .ok (.iconst 1, 1) := by decide +kernel
theorem dX0_person_26 : decode cX0_person 26 = .ok (.ireturn, 1) := by decide +kernel
theorem dX0_person_27 : decode cX0_person 27 = .ok (.astore 9, 2) := by decide +kernel
theorem dX0_person_29 : decode cX0_person 29 = .ok (.iconst 2, 1) := by decide +kernel
theorem dX0_person_30 : decode cX0_person 30 = .ok (.ireturn, 1) := by decide +kernel
theorem dX0_person_31 : decode cX0_person 31 = .ok (.iconst 0, 1) := by decide +kernel
theorem dX0_person_32 : decode cX0_person 32 = .ok (.ireturn, 1) := by decide +kernel
theorem dX0_name_0 : decode cX0_name 0 = .ok (.aload_n 2, 1) := by decide +kernel
theorem dX0_name_1 : decode cX0_name 1 = .ok (.iconst 0, 1) := by decide +kernel
theorem dX0_name_2 : decode cX0_name 2 = .ok (.aload_n 0, 1) := by decide +kernel
theorem dX0_name_3 : decode cX0_name 3 = .ok (.iload_n 1, 1) := by decide +kernel
theorem dX0_name_4 : decode cX0_name 4 = .ok (.invokevirtual 21, 3) := by decide +kernel
theorem dX0_name_7 : decode cX0_name 7 = .ok (.i2l, 1) := by decide +kernel
theorem dX0_name_8 : decode cX0_name 8 = .ok (.lastore, 1) := by decide +kernel
theorem dX0_name_9 : decode cX0_name 9 = .ok (.goto 9, 3) := by decide +kernel
theorem dX0_name_12 : decode cX0_name 12 = .ok (.astore_n 3, 1) := by decide +kernel
theorem dX0_name_13 : decode cX0_name 13 = .ok (.iconst 1, 1) := by decide +kernel
theorem dX0_name_14 : decode cX0_name 14 = .ok (.ireturn, 1) := by decide +kernel
theorem dX0_name_15 : decode cX0_name 15 = .ok (.astore_n 3, 1) := by decide +kernel
theorem dX0_name_16 : decode cX0_name 16 = .ok (.iconst 2, 1) := by decide +kernel
theorem dX0_name_17 : decode cX0_name 17 = .ok (.ireturn, 1) := by decide +kernel
theorem dX0_name_18 : decode cX0_name 18 = .ok (.iconst 0, 1) := by decide +kernel
theorem dX0_name_19 : decode cX0_name 19 = .ok (.ireturn, 1) := by decide +kernel
theorem dX0_sign_0 : decode cX0_sign 0 = .ok (.aload_n 3, 1) := by decide +kernel
theorem dX0_sign_1 : decode cX0_sign 1 = .ok (.iconst 0, 1) := by decide +kernel
theorem dX0_sign_2 : decode cX0_sign 2 = .ok (.aload_n 0, 1) := by decide +kernel
theorem dX0_sign_3 : decode cX0_sign 3 = .ok (.iload_n 1, 1) := by decide +kernel
theorem dX0_sign_4 : decode cX0_sign 4 = .ok (.iload_n 2, 1) := by decide +kernel
theorem dX0_sign_5 : decode cX0_sign 5 = .ok (.invokevirtual 26, 3) := by decide +kernel
theorem dX0_sign_8 : decode cX0_sign 8 = .ok (.i2l, 1) := by decide +kernel
theorem dX0_sign_9 : decode cX0_sign 9 = .ok (.lastore, 1) := by decide +kernel
theorem dX0_sign_10 : decode cX0_sign 10 = .ok (.goto 7, 3) := by decide +kernel
theorem dX0_sign_13 : decode cX0_sign 13 = .ok (.astore 4, 2) := by decide +kernel
theorem dX0_sign_15 : decode cX0_sign 15 = .ok (.iconst 1, 1) := by decide +kernel
theorem dX0_sign_16 : decode cX0_sign 16 = .ok (.ireturn, 1) := by decide +kernel
theorem dX0_sign_17 : decode cX0_sign 17 = .ok (.iconst 0, 1) := by decide +kernel
theorem dX0_sign_18 : decode cX0_sign 18 = .ok (.ireturn, 1) := by decide +kernel
theorem dX0_figure_0 : decode cX0_figure 0 = .ok (.aload_n 2, 1) := by decide +kernel
theorem dX0_figure_1 : decode cX0_figure 1 = .ok (.iconst 0, 1) := by decide +kernel
theorem dX0_figure_2 : decode cX0_figure 2 = .ok (.aload_n 0, 1) := by decide +kernel
theorem dX0_figure_3 : decode cX0_figure 3 = .ok (.iload_n 1, 1) := by decide +kernel
theorem dX0_figure_4 : decode cX0_figure 4 = .ok (.invokevirtual 30, 3) := by decide +kernel
theorem dX0_figure_7 : decode cX0_figure 7 = .ok (.i2l, 1) := by decide +kernel
theorem dX0_figure_8 : decode cX0_figure 8 = .ok (.lastore, 1) := by decide +kernel
theorem dX0_figure_9 : decode cX0_figure 9 = .ok (.goto 6, 3) := by decide +kernel
theorem dX0_figure_12 : decode cX0_figure 12 = .ok (.astore_n 3, 1) := by decide +kernel
theorem dX0_figure_13 : decode cX0_figure 13 = .ok (.iconst 1, 1) := by decide +kernel
theorem dX0_figure_14 : decode cX0_figure 14 = .ok (.ireturn, 1) := by decide +kernel
theorem dX0_figure_15 : decode cX0_figure 15 = .ok (.iconst 0, 1) := by decide +kernel
theorem dX0_figure_16 : decode cX0_figure 16 = .ok (.ireturn, 1) := by decide +kernel
theorem dX0_far_0 : decode cX0_far 0 = .ok (.aload_n 3, 1) := by decide +kernel
theorem dX0_far_1 : decode cX0_far 1 = .ok (.iconst 0, 1) := by decide +kernel
theorem dX0_far_2 : decode cX0_far 2 = .ok (.aload_n 0, 1) := by decide +kernel
theorem dX0_far_3 : decode cX0_far 3 = .ok (.iload_n 1, 1) := by decide +kernel
theorem dX0_far_4 : decode cX0_far 4 = .ok (.iload_n 2, 1) := by decide +kernel
theorem dX0_far_5 : decode cX0_far 5 = .ok (.invokevirtual 33, 3) := by decide +kernel
theorem dX0_far_8 : decode cX0_far 8 = .ok (.i2l, 1) := by decide +kernel
theorem dX0_far_9 : decode cX0_far 9 = .ok (.lastore, 1) := by decide +kernel
theorem dX0_far_10 : decode cX0_far 10 = .ok (.goto 7, 3) := by decide +kernel
theorem dX0_far_13 : decode cX0_far 13 = .ok (.astore 4, 2) := by decide +kernel
theorem dX0_far_15 : decode cX0_far 15 = .ok (.iconst 1, 1) := by decide +kernel
theorem dX0_far_16 : decode cX0_far 16 = .ok (.ireturn, 1) := by decide +kernel
theorem dX0_far_17 : decode cX0_far 17 = .ok (.iconst 0, 1) := by decide +kernel
theorem dX0_far_18 : decode cX0_far 18 = .ok (.ireturn, 1) := by decide +kernel
theorem dX0_tell_0 : decode cX0_tell 0 = .ok (.aload 4, 2) := by decide +kernel
theorem dX0_tell_2 : decode cX0_tell 2 = .ok (.iconst 0, 1) := by decide +kernel
theorem dX0_tell_3 : decode cX0_tell 3 = .ok (.aload_n 0, 1) := by decide +kernel
theorem dX0_tell_4 : decode cX0_tell 4 = .ok (.iload_n 1, 1) := by decide +kernel
theorem dX0_tell_5 : decode cX0_tell 5 = .ok (.iload_n 2, 1) := by decide +kernel
theorem dX0_tell_6 : decode cX0_tell 6 = .ok (.iload_n 3, 1) := by decide +kernel
theorem dX0_tell_7 : decode cX0_tell 7 = .ok (.invokevirtual 36, 3) := by decide +kernel
theorem dX0_tell_10 : decode cX0_tell 10 = .ok (.i2l, 1) := by decide +kernel
theorem dX0_tell_11 : decode cX0_tell 11 = .ok (.lastore, 1) := by decide +kernel
theorem dX0_tell_12 : decode cX0_tell 12 = .ok (.goto 11, 3) := by decide +kernel
theorem dX0_tell_15 : decode cX0_tell 15 = .ok (.astore 5, 2) := by decide +kernel
theorem dX0_tell_17 : decode cX0_tell 17 = .ok (.iconst 1, 1) := by decide +kernel
theorem dX0_tell_18 : decode cX0_tell 18 = .ok (.ireturn, 1) := by decide +kernel
theorem dX0_tell_19 : decode cX0_tell 19 = .ok (.astore 5, 2) := by decide +kernel
theorem dX0_tell_21 : decode cX0_tell 21 = .ok (.iconst 2, 1) := by decide +kernel
theorem dX0_tell_22 : decode cX0_tell 22 = .ok (.ireturn, 1) := by decide +kernel
theorem dX0_tell_23 : decode cX0_tell 23 = .ok (.iconst 0, 1) := by decide +kernel
theorem dX0_tell_24 : decode cX0_tell 24 = .ok (.ireturn, 1) := by decide +kernel
theorem dX0_judge_0 : decode cX0_judge 0 = .ok (.aload 6, 2) := by decide +kernel
theorem dX0_judge_2 : decode cX0_judge 2 = .ok (.iconst 0, 1) := by decide +kernel
theorem dX0_judge_3 : decode cX0_judge 3 = .ok (.aload_n 0, 1) := by decide +kernel
theorem dX0_judge_4 : decode cX0_judge 4 = .ok (.iload_n 1, 1) := by decide +kernel
theorem dX0_judge_5 : decode cX0_judge 5 = .ok (.iload_n 2, 1) := by decide +kernel
theorem dX0_judge_6 : decode cX0_judge 6 = .ok (.iload_n 3, 1) := by decide +kernel
theorem dX0_judge_7 : decode cX0_judge 7 = .ok (.iload 4, 2) := by decide +kernel
theorem dX0_judge_9 : decode cX0_judge 9 = .ok (.iload 5, 2) := by decide +kernel
theorem dX0_judge_11 : decode cX0_judge 11 = .ok (.invokevirtual 40, 3) := by decide +kernel
theorem dX0_judge_14 : decode cX0_judge 14 = .ok (.i2l, 1) := by decide +kernel
theorem dX0_judge_15 : decode cX0_judge 15 = .ok (.lastore, 1) := by decide +kernel
theorem dX0_judge_16 : decode cX0_judge 16 = .ok (.goto 15, 3) := by decide +kernel
theorem dX0_judge_19 : decode cX0_judge 19 = .ok (.astore 7, 2) := by decide +kernel
theorem dX0_judge_21 : decode cX0_judge 21 = .ok (.iconst 1, 1) := by decide +kernel
theorem dX0_judge_22 : decode cX0_judge 22 = .ok (.ireturn, 1) := by decide +kernel
theorem dX0_judge_23 : decode cX0_judge 23 = .ok (.astore 7, 2) := by decide +kernel
theorem dX0_judge_25 : decode cX0_judge 25 = .ok (.iconst 2, 1) := by decide +kernel
theorem dX0_judge_26 : decode cX0_judge 26 = .ok (.ireturn, 1) := by decide +kernel
theorem dX0_judge_27 : decode cX0_judge 27 = .ok (.astore 7, 2) := by decide +kernel
theorem dX0_judge_29 : decode cX0_judge 29 = .ok (.iconst 3, 1) := by decide +kernel
theorem dX0_judge_30 : decode cX0_judge 30 = .ok (.ireturn, 1) := by decide +kernel
theorem dX0_judge_31 : decode cX0_judge 31 = .ok (.iconst 0, 1) := by decide +kernel
theorem dX0_judge_32 : decode cX0_judge 32 = .ok (.ireturn, 1) := by decide +kernel
theorem dX0_ask_0 : decode cX0_ask 0 = .ok (.aload 6, 2) := by decide +kernel
theorem dX0_ask_2 : decode cX0_ask 2 = .ok (.iconst 0, 1) := by decide +kernel
theorem dX0_ask_3 : decode cX0_ask 3 = .ok (.aload_n 0, 1) := by decide +kernel
theorem dX0_ask_4 : decode cX0_ask 4 = .ok (.iload_n 1, 1) := by decide +kernel
theorem dX0_ask_5 : decode cX0_ask 5 = .ok (.iload_n 2, 1) := by decide +kernel
theorem dX0_ask_6 : decode cX0_ask 6 = .ok (.iload_n 3, 1) := by decide +kernel
theorem dX0_ask_7 : decode cX0_ask 7 = .ok (.iload 4, 2) := by decide +kernel
theorem dX0_ask_9 : decode cX0_ask 9 = .ok (.iload 5, 2) := by decide +kernel
theorem dX0_ask_11 : decode cX0_ask 11 = .ok (.invokevirtual 46, 3) := by decide +kernel
theorem dX0_ask_14 : decode cX0_ask 14 = .ok (.i2l, 1) := by decide +kernel
theorem dX0_ask_15 : decode cX0_ask 15 = .ok (.lastore, 1) := by decide +kernel
theorem dX0_ask_16 : decode cX0_ask 16 = .ok (.goto 15, 3) := by decide +kernel
theorem dX0_ask_19 : decode cX0_ask 19 = .ok (.astore 7, 2) := by decide +kernel
theorem dX0_ask_21 : decode cX0_ask 21 = .ok (.iconst 1, 1) := by decide +kernel
theorem dX0_ask_22 : decode cX0_ask 22 = .ok (.ireturn, 1) := by decide +kernel
theorem dX0_ask_23 : decode cX0_ask 23 = .ok (.astore 7, 2) := by decide +kernel
theorem dX0_ask_25 : decode cX0_ask 25 = .ok (.iconst 2, 1) := by decide +kernel
theorem dX0_ask_26 : decode cX0_ask 26 = .ok (.ireturn, 1) := by decide +kernel
theorem dX0_ask_27 : decode cX0_ask 27 = .ok (.astore 7, 2) := by decide +kernel
theorem dX0_ask_29 : decode cX0_ask 29 = .ok (.iconst 3, 1) := by decide +kernel
theorem dX0_ask_30 : decode cX0_ask 30 = .ok (.ireturn, 1) := by decide +kernel
theorem dX0_ask_31 : decode cX0_ask 31 = .ok (.iconst 0, 1) := by decide +kernel
theorem dX0_ask_32 : decode cX0_ask 32 = .ok (.ireturn, 1) := by decide +kernel
theorem dX0_give_0 : decode cX0_give 0 = .ok (.aload_n 3, 1) := by decide +kernel
theorem dX0_give_1 : decode cX0_give 1 = .ok (.iconst 0, 1) := by decide +kernel
theorem dX0_give_2 : decode cX0_give 2 = .ok (.aload_n 0, 1) := by decide +kernel
theorem dX0_give_3 : decode cX0_give 3 = .ok (.iload_n 1, 1) := by decide +kernel
theorem dX0_give_4 : decode cX0_give 4 = .ok (.iload_n 2, 1) := by decide +kernel
theorem dX0_give_5 : decode cX0_give 5 = .ok (.invokevirtual 50, 3) := by decide +kernel
theorem dX0_give_8 : decode cX0_give 8 = .ok (.i2l, 1) := by decide +kernel
theorem dX0_give_9 : decode cX0_give 9 = .ok (.lastore, 1) := by decide +kernel
theorem dX0_give_10 : decode cX0_give 10 = .ok (.goto 15, 3) := by decide +kernel
theorem dX0_give_13 : decode cX0_give 13 = .ok (.astore 4, 2) := by decide +kernel
theorem dX0_give_15 : decode cX0_give 15 = .ok (.iconst 1, 1) := by decide +kernel
theorem dX0_give_16 : decode cX0_give 16 = .ok (.ireturn, 1) := by decide +kernel
theorem dX0_give_17 : decode cX0_give 17 = .ok (.astore 4, 2) := by decide +kernel
theorem dX0_give_19 : decode cX0_give 19 = .ok (.iconst 2, 1) := by decide +kernel
theorem dX0_give_20 : decode cX0_give 20 = .ok (.ireturn, 1) := by decide +kernel
theorem dX0_give_21 : decode cX0_give 21 = .ok (.astore 4, 2) := by decide +kernel
theorem dX0_give_23 : decode cX0_give 23 = .ok (.iconst 3, 1) := by decide +kernel
theorem dX0_give_24 : decode cX0_give 24 = .ok (.ireturn, 1) := by decide +kernel
theorem dX0_give_25 : decode cX0_give 25 = .ok (.iconst 0, 1) := by decide +kernel
theorem dX0_give_26 : decode cX0_give 26 = .ok (.ireturn, 1) := by decide +kernel
theorem dX0_hands_0 : decode cX0_hands 0 = .ok (.aload_n 0, 1) := by decide +kernel
theorem dX0_hands_1 : decode cX0_hands 1 = .ok (.iload_n 1, 1) := by decide +kernel
theorem dX0_hands_2 : decode cX0_hands 2 = .ok (.iload_n 2, 1) := by decide +kernel
theorem dX0_hands_3 : decode cX0_hands 3 = .ok (.invokevirtual 55, 3) := by decide +kernel
theorem dX0_hands_6 : decode cX0_hands 6 = .ok (.goto 9, 3) := by decide +kernel
theorem dX0_hands_9 : decode cX0_hands 9 = .ok (.astore_n 3, 1) := by decide +kernel
theorem dX0_hands_10 : decode cX0_hands 10 = .ok (.iconst 1, 1) := by decide +kernel
theorem dX0_hands_11 : decode cX0_hands 11 = .ok (.ireturn, 1) := by decide +kernel
theorem dX0_hands_12 : decode cX0_hands 12 = .ok (.astore_n 3, 1) := by decide +kernel
theorem dX0_hands_13 : decode cX0_hands 13 = .ok (.iconst 2, 1) := by decide +kernel
theorem dX0_hands_14 : decode cX0_hands 14 = .ok (.ireturn, 1) := by decide +kernel
theorem dX0_hands_15 : decode cX0_hands 15 = .ok (.iconst 0, 1) := by decide +kernel
theorem dX0_hands_16 : decode cX0_hands 16 = .ok (.ireturn, 1) := by decide +kernel
theorem dX0_lend_0 : decode cX0_lend 0 = .ok (.aload 6, 2) := by decide +kernel
theorem dX0_lend_2 : decode cX0_lend 2 = .ok (.iconst 0, 1) := by decide +kernel
theorem dX0_lend_3 : decode cX0_lend 3 = .ok (.aload_n 0, 1) := by decide +kernel
theorem dX0_lend_4 : decode cX0_lend 4 = .ok (.iload_n 1, 1) := by decide +kernel
theorem dX0_lend_5 : decode cX0_lend 5 = .ok (.iload_n 2, 1) := by decide +kernel
theorem dX0_lend_6 : decode cX0_lend 6 = .ok (.iload_n 3, 1) := by decide +kernel
theorem dX0_lend_7 : decode cX0_lend 7 = .ok (.iload 4, 2) := by decide +kernel
theorem dX0_lend_9 : decode cX0_lend 9 = .ok (.iload 5, 2) := by decide +kernel
theorem dX0_lend_11 : decode cX0_lend 11 = .ok (.invokevirtual 59, 3) := by decide +kernel
theorem dX0_lend_14 : decode cX0_lend 14 = .ok (.i2l, 1) := by decide +kernel
theorem dX0_lend_15 : decode cX0_lend 15 = .ok (.lastore, 1) := by decide +kernel
theorem dX0_lend_16 : decode cX0_lend 16 = .ok (.goto 11, 3) := by decide +kernel
theorem dX0_lend_19 : decode cX0_lend 19 = .ok (.astore 7, 2) := by decide +kernel
theorem dX0_lend_21 : decode cX0_lend 21 = .ok (.iconst 1, 1) := by decide +kernel
theorem dX0_lend_22 : decode cX0_lend 22 = .ok (.ireturn, 1) := by decide +kernel
theorem dX0_lend_23 : decode cX0_lend 23 = .ok (.astore 7, 2) := by decide +kernel
theorem dX0_lend_25 : decode cX0_lend 25 = .ok (.iconst 2, 1) := by decide +kernel
theorem dX0_lend_26 : decode cX0_lend 26 = .ok (.ireturn, 1) := by decide +kernel
theorem dX0_lend_27 : decode cX0_lend 27 = .ok (.iconst 0, 1) := by decide +kernel
theorem dX0_lend_28 : decode cX0_lend 28 = .ok (.ireturn, 1) := by decide +kernel
theorem dX0_units_0 : decode cX0_units 0 = .ok (.aload_n 3, 1) := by decide +kernel
theorem dX0_units_1 : decode cX0_units 1 = .ok (.iconst 0, 1) := by decide +kernel
theorem dX0_units_2 : decode cX0_units 2 = .ok (.aload_n 0, 1) := by decide +kernel
theorem dX0_units_3 : decode cX0_units 3 = .ok (.iload_n 1, 1) := by decide +kernel
theorem dX0_units_4 : decode cX0_units 4 = .ok (.iload_n 2, 1) := by decide +kernel
theorem dX0_units_5 : decode cX0_units 5 = .ok (.invokevirtual 63, 3) := by decide +kernel
theorem dX0_units_8 : decode cX0_units 8 = .ok (.i2l, 1) := by decide +kernel
theorem dX0_units_9 : decode cX0_units 9 = .ok (.lastore, 1) := by decide +kernel
theorem dX0_units_10 : decode cX0_units 10 = .ok (.goto 7, 3) := by decide +kernel
theorem dX0_units_13 : decode cX0_units 13 = .ok (.astore 4, 2) := by decide +kernel
theorem dX0_units_15 : decode cX0_units 15 = .ok (.iconst 1, 1) := by decide +kernel
theorem dX0_units_16 : decode cX0_units 16 = .ok (.ireturn, 1) := by decide +kernel
theorem dX0_units_17 : decode cX0_units 17 = .ok (.iconst 0, 1) := by decide +kernel
theorem dX0_units_18 : decode cX0_units 18 = .ok (.ireturn, 1) := by decide +kernel
theorem dX0_rules_0 : decode cX0_rules 0 = .ok (.aload_n 0, 1) := by decide +kernel
theorem dX0_rules_1 : decode cX0_rules 1 = .ok (.iload_n 1, 1) := by decide +kernel
theorem dX0_rules_2 : decode cX0_rules 2 = .ok (.iload_n 2, 1) := by decide +kernel
theorem dX0_rules_3 : decode cX0_rules 3 = .ok (.iload_n 3, 1) := by decide +kernel
theorem dX0_rules_4 : decode cX0_rules 4 = .ok (.iload 4, 2) := by decide +kernel
theorem dX0_rules_6 : decode cX0_rules 6 = .ok (.iload 5, 2) := by decide +kernel
theorem dX0_rules_8 : decode cX0_rules 8 = .ok (.invokevirtual 66, 3) := by decide +kernel
theorem dX0_rules_11 : decode cX0_rules 11 = .ok (.goto 7, 3) := by decide +kernel
theorem dX0_rules_14 : decode cX0_rules 14 = .ok (.astore 6, 2) := by decide +kernel
theorem dX0_rules_16 : decode cX0_rules 16 = .ok (.iconst 1, 1) := by decide +kernel
theorem dX0_rules_17 : decode cX0_rules 17 = .ok (.ireturn, 1) := by decide +kernel
theorem dX0_rules_18 : decode cX0_rules 18 = .ok (.iconst 0, 1) := by decide +kernel
theorem dX0_rules_19 : decode cX0_rules 19 = .ok (.ireturn, 1) := by decide +kernel
theorem dX0_order_0 : decode cX0_order 0 = .ok (.aload_n 0, 1) := by decide +kernel
theorem dX0_order_1 : decode cX0_order 1 = .ok (.iload_n 1, 1) := by decide +kernel
theorem dX0_order_2 : decode cX0_order 2 = .ok (.invokevirtual 70, 3) := by decide +kernel
theorem dX0_order_5 : decode cX0_order 5 = .ok (.goto 6, 3) := by decide +kernel
theorem dX0_order_8 : decode cX0_order 8 = .ok (.astore_n 2, 1) := by decide +kernel
theorem dX0_order_9 : decode cX0_order 9 = .ok (.iconst 1, 1) := by decide +kernel
theorem dX0_order_10 : decode cX0_order 10 = .ok (.ireturn, 1) := by decide +kernel
theorem dX0_order_11 : decode cX0_order 11 = .ok (.iconst 0, 1) := by decide +kernel
theorem dX0_order_12 : decode cX0_order 12 = .ok (.ireturn, 1) := by decide +kernel
theorem dX0_blanks_0 : decode cX0_blanks 0 = .ok (.aload_n 2, 1) := by decide +kernel
theorem dX0_blanks_1 : decode cX0_blanks 1 = .ok (.iconst 0, 1) := by decide +kernel
theorem dX0_blanks_2 : decode cX0_blanks 2 = .ok (.aload_n 0, 1) := by decide +kernel
theorem dX0_blanks_3 : decode cX0_blanks 3 = .ok (.iload_n 1, 1) := by decide +kernel
theorem dX0_blanks_4 : decode cX0_blanks 4 = .ok (.invokevirtual 74, 3) := by decide +kernel
theorem dX0_blanks_7 : decode cX0_blanks 7 = .ok (.i2l, 1) := by decide +kernel
theorem dX0_blanks_8 : decode cX0_blanks 8 = .ok (.lastore, 1) := by decide +kernel
theorem dX0_blanks_9 : decode cX0_blanks 9 = .ok (.goto 6, 3) := by decide +kernel
theorem dX0_blanks_12 : decode cX0_blanks 12 = .ok (.astore_n 3, 1) := by decide +kernel
theorem dX0_blanks_13 : decode cX0_blanks 13 = .ok (.iconst 1, 1) := by decide +kernel
theorem dX0_blanks_14 : decode cX0_blanks 14 = .ok (.ireturn, 1) := by decide +kernel
theorem dX0_blanks_15 : decode cX0_blanks 15 = .ok (.iconst 0, 1) := by decide +kernel
theorem dX0_blanks_16 : decode cX0_blanks 16 = .ok (.ireturn, 1) := by decide +kernel
theorem dX0_broken_0 : decode cX0_broken 0 = .ok (.aload_n 0, 1) := by decide +kernel
theorem dX0_broken_1 : decode cX0_broken 1 = .ok (.iload_n 1, 1) := by decide +kernel
theorem dX0_broken_2 : decode cX0_broken 2 = .ok (.iload_n 2, 1) := by decide +kernel
theorem dX0_broken_3 : decode cX0_broken 3 = .ok (.invokevirtual 77, 3) := by decide +kernel
theorem dX0_broken_6 : decode cX0_broken 6 = .ok (.goto 6, 3) := by decide +kernel
theorem dX0_broken_9 : decode cX0_broken 9 = .ok (.astore_n 3, 1) := by decide +kernel
theorem dX0_broken_10 : decode cX0_broken 10 = .ok (.iconst 1, 1) := by decide +kernel
theorem dX0_broken_11 : decode cX0_broken 11 = .ok (.ireturn, 1) := by decide +kernel
theorem dX0_broken_12 : decode cX0_broken 12 = .ok (.iconst 0, 1) := by decide +kernel
theorem dX0_broken_13 : decode cX0_broken 13 = .ok (.ireturn, 1) := by decide +kernel
theorem dX0_days_0 : decode cX0_days 0 = .ok (.aload_n 2, 1) := by decide +kernel
theorem dX0_days_1 : decode cX0_days 1 = .ok (.iconst 0, 1) := by decide +kernel
theorem dX0_days_2 : decode cX0_days 2 = .ok (.aload_n 0, 1) := by decide +kernel
theorem dX0_days_3 : decode cX0_days 3 = .ok (.iload_n 1, 1) := by decide +kernel
theorem dX0_days_4 : decode cX0_days 4 = .ok (.invokevirtual 80, 3) := by decide +kernel
theorem dX0_days_7 : decode cX0_days 7 = .ok (.i2l, 1) := by decide +kernel
theorem dX0_days_8 : decode cX0_days 8 = .ok (.lastore, 1) := by decide +kernel
theorem dX0_days_9 : decode cX0_days 9 = .ok (.goto 6, 3) := by decide +kernel
theorem dX0_days_12 : decode cX0_days 12 = .ok (.astore_n 3, 1) := by decide +kernel
theorem dX0_days_13 : decode cX0_days 13 = .ok (.iconst 1, 1) := by decide +kernel
theorem dX0_days_14 : decode cX0_days 14 = .ok (.ireturn, 1) := by decide +kernel
theorem dX0_days_15 : decode cX0_days 15 = .ok (.iconst 0, 1) := by decide +kernel
theorem dX0_days_16 : decode cX0_days 16 = .ok (.ireturn, 1) := by decide +kernel
theorem dX0_refuse_0 : decode cX0_refuse 0 = .ok (.aload_n 0, 1) := by decide +kernel
theorem dX0_refuse_1 : decode cX0_refuse 1 = .ok (.iload_n 1, 1) := by decide +kernel
theorem dX0_refuse_2 : decode cX0_refuse 2 = .ok (.invokevirtual 83, 3) := by decide +kernel
theorem dX0_refuse_5 : decode cX0_refuse 5 = .ok (.goto 9, 3) := by decide +kernel
theorem dX0_refuse_8 : decode cX0_refuse 8 = .ok (.astore_n 2, 1) := by decide +kernel
theorem dX0_refuse_9 : decode cX0_refuse 9 = .ok (.iconst 1, 1) := by decide +kernel
theorem dX0_refuse_10 : decode cX0_refuse 10 = .ok (.ireturn, 1) := by decide +kernel
theorem dX0_refuse_11 : decode cX0_refuse 11 = .ok (.astore_n 2, 1) := by decide +kernel
theorem dX0_refuse_12 : decode cX0_refuse 12 = .ok (.iconst 2, 1) := by decide +kernel
theorem dX0_refuse_13 : decode cX0_refuse 13 = .ok (.ireturn, 1) := by decide +kernel
theorem dX0_refuse_14 : decode cX0_refuse 14 = .ok (.iconst 0, 1) := by decide +kernel
theorem dX0_refuse_15 : decode cX0_refuse 15 = .ok (.ireturn, 1) := by decide +kernel
theorem dX0_lose_0 : decode cX0_lose 0 = .ok (.aload_n 0, 1) := by decide +kernel
theorem dX0_lose_1 : decode cX0_lose 1 = .ok (.iload_n 1, 1) := by decide +kernel
theorem dX0_lose_2 : decode cX0_lose 2 = .ok (.invokevirtual 86, 3) := by decide +kernel
theorem dX0_lose_5 : decode cX0_lose 5 = .ok (.goto 9, 3) := by decide +kernel
theorem dX0_lose_8 : decode cX0_lose 8 = .ok (.astore_n 2, 1) := by decide +kernel
theorem dX0_lose_9 : decode cX0_lose 9 = .ok (.iconst 1, 1) := by decide +kernel
theorem dX0_lose_10 : decode cX0_lose 10 = .ok (.ireturn, 1) := by decide +kernel
theorem dX0_lose_11 : decode cX0_lose 11 = .ok (.astore_n 2, 1) := by decide +kernel
theorem dX0_lose_12 : decode cX0_lose 12 = .ok (.iconst 2, 1) := by decide +kernel
theorem dX0_lose_13 : decode cX0_lose 13 = .ok (.ireturn, 1) := by decide +kernel
theorem dX0_lose_14 : decode cX0_lose 14 = .ok (.iconst 0, 1) := by decide +kernel
theorem dX0_lose_15 : decode cX0_lose 15 = .ok (.ireturn, 1) := by decide +kernel
theorem dX0_again_0 : decode cX0_again 0 = .ok (.aload_n 0, 1) := by decide +kernel
theorem dX0_again_1 : decode cX0_again 1 = .ok (.iload_n 1, 1) := by decide +kernel
theorem dX0_again_2 : decode cX0_again 2 = .ok (.invokevirtual 89, 3) := by decide +kernel
theorem dX0_again_5 : decode cX0_again 5 = .ok (.goto 9, 3) := by decide +kernel
theorem dX0_again_8 : decode cX0_again 8 = .ok (.astore_n 2, 1) := by decide +kernel
theorem dX0_again_9 : decode cX0_again 9 = .ok (.iconst 1, 1) := by decide +kernel
theorem dX0_again_10 : decode cX0_again 10 = .ok (.ireturn, 1) := by decide +kernel
theorem dX0_again_11 : decode cX0_again 11 = .ok (.astore_n 2, 1) := by decide +kernel
theorem dX0_again_12 : decode cX0_again 12 = .ok (.iconst 2, 1) := by decide +kernel
theorem dX0_again_13 : decode cX0_again 13 = .ok (.ireturn, 1) := by decide +kernel
theorem dX0_again_14 : decode cX0_again 14 = .ok (.iconst 0, 1) := by decide +kernel
theorem dX0_again_15 : decode cX0_again 15 = .ok (.ireturn, 1) := by decide +kernel
theorem dX0_led_0 : decode cX0_led 0 = .ok (.aload_n 3, 1) := by decide +kernel
theorem dX0_led_1 : decode cX0_led 1 = .ok (.iconst 0, 1) := by decide +kernel
theorem dX0_led_2 : decode cX0_led 2 = .ok (.aload_n 0, 1) := by decide +kernel
theorem dX0_led_3 : decode cX0_led 3 = .ok (.iload_n 1, 1) := by decide +kernel
theorem dX0_led_4 : decode cX0_led 4 = .ok (.iload_n 2, 1) := by decide +kernel
theorem dX0_led_5 : decode cX0_led 5 = .ok (.invokevirtual 92, 3) := by decide +kernel
theorem dX0_led_8 : decode cX0_led 8 = .ok (.i2l, 1) := by decide +kernel
theorem dX0_led_9 : decode cX0_led 9 = .ok (.lastore, 1) := by decide +kernel
theorem dX0_led_10 : decode cX0_led 10 = .ok (.goto 11, 3) := by decide +kernel
theorem dX0_led_13 : decode cX0_led 13 = .ok (.astore 4, 2) := by decide +kernel
theorem dX0_led_15 : decode cX0_led 15 = .ok (.iconst 1, 1) := by decide +kernel
theorem dX0_led_16 : decode cX0_led 16 = .ok (.ireturn, 1) := by decide +kernel
theorem dX0_led_17 : decode cX0_led 17 = .ok (.astore 4, 2) := by decide +kernel
theorem dX0_led_19 : decode cX0_led 19 = .ok (.iconst 2, 1) := by decide +kernel
theorem dX0_led_20 : decode cX0_led 20 = .ok (.ireturn, 1) := by decide +kernel
theorem dX0_led_21 : decode cX0_led 21 = .ok (.iconst 0, 1) := by decide +kernel
theorem dX0_led_22 : decode cX0_led 22 = .ok (.ireturn, 1) := by decide +kernel
theorem dX0_queue_0 : decode cX0_queue 0 = .ok (.aload_n 2, 1) := by decide +kernel
theorem dX0_queue_1 : decode cX0_queue 1 = .ok (.iconst 0, 1) := by decide +kernel
theorem dX0_queue_2 : decode cX0_queue 2 = .ok (.aload_n 0, 1) := by decide +kernel
theorem dX0_queue_3 : decode cX0_queue 3 = .ok (.iload_n 1, 1) := by decide +kernel
theorem dX0_queue_4 : decode cX0_queue 4 = .ok (.invokevirtual 95, 3) := by decide +kernel
theorem dX0_queue_7 : decode cX0_queue 7 = .ok (.i2l, 1) := by decide +kernel
theorem dX0_queue_8 : decode cX0_queue 8 = .ok (.lastore, 1) := by decide +kernel
theorem dX0_queue_9 : decode cX0_queue 9 = .ok (.goto 6, 3) := by decide +kernel
theorem dX0_queue_12 : decode cX0_queue 12 = .ok (.astore_n 3, 1) := by decide +kernel
theorem dX0_queue_13 : decode cX0_queue 13 = .ok (.iconst 1, 1) := by decide +kernel
theorem dX0_queue_14 : decode cX0_queue 14 = .ok (.ireturn, 1) := by decide +kernel
theorem dX0_queue_15 : decode cX0_queue 15 = .ok (.iconst 0, 1) := by decide +kernel
theorem dX0_queue_16 : decode cX0_queue 16 = .ok (.ireturn, 1) := by decide +kernel
theorem dX0_ahead_0 : decode cX0_ahead 0 = .ok (.aload_n 2, 1) := by decide +kernel
theorem dX0_ahead_1 : decode cX0_ahead 1 = .ok (.iconst 0, 1) := by decide +kernel
theorem dX0_ahead_2 : decode cX0_ahead 2 = .ok (.aload_n 0, 1) := by decide +kernel
theorem dX0_ahead_3 : decode cX0_ahead 3 = .ok (.iload_n 1, 1) := by decide +kernel
theorem dX0_ahead_4 : decode cX0_ahead 4 = .ok (.invokevirtual 98, 3) := by decide +kernel
theorem dX0_ahead_7 : decode cX0_ahead 7 = .ok (.i2l, 1) := by decide +kernel
theorem dX0_ahead_8 : decode cX0_ahead 8 = .ok (.lastore, 1) := by decide +kernel
theorem dX0_ahead_9 : decode cX0_ahead 9 = .ok (.goto 6, 3) := by decide +kernel
theorem dX0_ahead_12 : decode cX0_ahead 12 = .ok (.astore_n 3, 1) := by decide +kernel
theorem dX0_ahead_13 : decode cX0_ahead 13 = .ok (.iconst 1, 1) := by decide +kernel
theorem dX0_ahead_14 : decode cX0_ahead 14 = .ok (.ireturn, 1) := by decide +kernel
theorem dX0_ahead_15 : decode cX0_ahead 15 = .ok (.iconst 0, 1) := by decide +kernel
theorem dX0_ahead_16 : decode cX0_ahead 16 = .ok (.ireturn, 1) := by decide +kernel
theorem dX0_booklet_0 : decode cX0_booklet 0 = .ok (.aload_n 3, 1) := by decide +kernel
theorem dX0_booklet_1 : decode cX0_booklet 1 = .ok (.iconst 0, 1) := by decide +kernel
theorem dX0_booklet_2 : decode cX0_booklet 2 = .ok (.aload_n 0, 1) := by decide +kernel
theorem dX0_booklet_3 : decode cX0_booklet 3 = .ok (.iload_n 1, 1) := by decide +kernel
theorem dX0_booklet_4 : decode cX0_booklet 4 = .ok (.iload_n 2, 1) := by decide +kernel
theorem dX0_booklet_5 : decode cX0_booklet 5 = .ok (.invokevirtual 101, 3) := by decide +kernel
theorem dX0_booklet_8 : decode cX0_booklet 8 = .ok (.i2l, 1) := by decide +kernel
theorem dX0_booklet_9 : decode cX0_booklet 9 = .ok (.lastore, 1) := by decide +kernel
theorem dX0_booklet_10 : decode cX0_booklet 10 = .ok (.goto 11, 3) := by decide +kernel
theorem dX0_booklet_13 : decode cX0_booklet 13 = .ok (.astore 4, 2) := by decide +kernel
theorem dX0_booklet_15 : decode cX0_booklet 15 = .ok (.iconst 1, 1) := by decide +kernel
theorem dX0_booklet_16 : decode cX0_booklet 16 = .ok (.ireturn, 1) := by decide +kernel
theorem dX0_booklet_17 : decode cX0_booklet 17 = .ok (.astore 4, 2) := by decide +kernel
theorem dX0_booklet_19 : decode cX0_booklet 19 = .ok (.iconst 2, 1) := by decide +kernel
theorem dX0_booklet_20 : decode cX0_booklet 20 = .ok (.ireturn, 1) := by decide +kernel
theorem dX0_booklet_21 : decode cX0_booklet 21 = .ok (.iconst 0, 1) := by decide +kernel
theorem dX0_booklet_22 : decode cX0_booklet 22 = .ok (.ireturn, 1) := by decide +kernel
theorem dX0_valid_0 : decode cX0_valid 0 = .ok (.aload_n 3, 1) := by decide +kernel
theorem dX0_valid_1 : decode cX0_valid 1 = .ok (.iconst 0, 1) := by decide +kernel
theorem dX0_valid_2 : decode cX0_valid 2 = .ok (.aload_n 0, 1) := by decide +kernel
theorem dX0_valid_3 : decode cX0_valid 3 = .ok (.iload_n 1, 1) := by decide +kernel
theorem dX0_valid_4 : decode cX0_valid 4 = .ok (.iload_n 2, 1) := by decide +kernel
theorem dX0_valid_5 : decode cX0_valid 5 = .ok (.invokevirtual 104, 3) := by decide +kernel
theorem dX0_valid_8 : decode cX0_valid 8 = .ok (.i2l, 1) := by decide +kernel
theorem dX0_valid_9 : decode cX0_valid 9 = .ok (.lastore, 1) := by decide +kernel
theorem dX0_valid_10 : decode cX0_valid 10 = .ok (.goto 7, 3) := by decide +kernel
theorem dX0_valid_13 : decode cX0_valid 13 = .ok (.astore 4, 2) := by decide +kernel
theorem dX0_valid_15 : decode cX0_valid 15 = .ok (.iconst 1, 1) := by decide +kernel
theorem dX0_valid_16 : decode cX0_valid 16 = .ok (.ireturn, 1) := by decide +kernel
theorem dX0_valid_17 : decode cX0_valid 17 = .ok (.iconst 0, 1) := by decide +kernel
theorem dX0_valid_18 : decode cX0_valid 18 = .ok (.ireturn, 1) := by decide +kernel
theorem dX0_missed_0 : decode cX0_missed 0 = .ok (.aload_n 3, 1) := by decide +kernel
theorem dX0_missed_1 : decode cX0_missed 1 = .ok (.iconst 0, 1) := by decide +kernel
theorem dX0_missed_2 : decode cX0_missed 2 = .ok (.aload_n 0, 1) := by decide +kernel
theorem dX0_missed_3 : decode cX0_missed 3 = .ok (.iload_n 1, 1) := by decide +kernel
theorem dX0_missed_4 : decode cX0_missed 4 = .ok (.iload_n 2, 1) := by decide +kernel
theorem dX0_missed_5 : decode cX0_missed 5 = .ok (.invokevirtual 107, 3) := by decide +kernel
theorem dX0_missed_8 : decode cX0_missed 8 = .ok (.i2l, 1) := by decide +kernel
theorem dX0_missed_9 : decode cX0_missed 9 = .ok (.lastore, 1) := by decide +kernel
theorem dX0_missed_10 : decode cX0_missed 10 = .ok (.goto 7, 3) := by decide +kernel
theorem dX0_missed_13 : decode cX0_missed 13 = .ok (.astore 4, 2) := by decide +kernel
theorem dX0_missed_15 : decode cX0_missed 15 = .ok (.iconst 1, 1) := by decide +kernel
theorem dX0_missed_16 : decode cX0_missed 16 = .ok (.ireturn, 1) := by decide +kernel
theorem dX0_missed_17 : decode cX0_missed 17 = .ok (.iconst 0, 1) := by decide +kernel
theorem dX0_missed_18 : decode cX0_missed 18 = .ok (.ireturn, 1) := by decide +kernel
theorem dX0_waits_0 : decode cX0_waits 0 = .ok (.aload_n 3, 1) := by decide +kernel
theorem dX0_waits_1 : decode cX0_waits 1 = .ok (.iconst 0, 1) := by decide +kernel
theorem dX0_waits_2 : decode cX0_waits 2 = .ok (.aload_n 0, 1) := by decide +kernel
theorem dX0_waits_3 : decode cX0_waits 3 = .ok (.iload_n 1, 1) := by decide +kernel
theorem dX0_waits_4 : decode cX0_waits 4 = .ok (.iload_n 2, 1) := by decide +kernel
theorem dX0_waits_5 : decode cX0_waits 5 = .ok (.invokevirtual 110, 3) := by decide +kernel
theorem dX0_waits_8 : decode cX0_waits 8 = .ok (.i2l, 1) := by decide +kernel
theorem dX0_waits_9 : decode cX0_waits 9 = .ok (.lastore, 1) := by decide +kernel
theorem dX0_waits_10 : decode cX0_waits 10 = .ok (.goto 7, 3) := by decide +kernel
theorem dX0_waits_13 : decode cX0_waits 13 = .ok (.astore 4, 2) := by decide +kernel
theorem dX0_waits_15 : decode cX0_waits 15 = .ok (.iconst 1, 1) := by decide +kernel
theorem dX0_waits_16 : decode cX0_waits 16 = .ok (.ireturn, 1) := by decide +kernel
theorem dX0_waits_17 : decode cX0_waits 17 = .ok (.iconst 0, 1) := by decide +kernel
theorem dX0_waits_18 : decode cX0_waits 18 = .ok (.ireturn, 1) := by decide +kernel
