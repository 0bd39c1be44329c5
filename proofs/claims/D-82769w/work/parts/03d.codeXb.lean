/-! method names and decode rows: X1 -/
set_option maxRecDepth 100000
theorem dX1_lend_55 : decode cX1_lend 55 = .ok (.goto 4, 3) := by decide +kernel
theorem dX1_lend_58 : decode cX1_lend 58 = .ok (.iconst 0, 1) := by decide +kernel
theorem dX1_lend_59 : decode cX1_lend 59 = .ok (.invokestatic 143, 3) := by decide +kernel
theorem dX1_lend_62 : decode cX1_lend 62 = .ok (.aload_n 0, 1) := by decide +kernel
theorem dX1_lend_63 : decode cX1_lend 63 = .ok (.getfield 332, 3) := by decide +kernel
theorem dX1_lend_66 : decode cX1_lend 66 = .ok (.bipush 20, 2) := by decide +kernel
theorem dX1_lend_68 : decode cX1_lend 68 = .ok (.if_icmp .ne 5, 3) := by decide +kernel
theorem dX1_lend_71 : decode cX1_lend 71 = .ok (.iconst (-1), 1) := by decide +kernel
theorem dX1_lend_72 : decode cX1_lend 72 = .ok (.ireturn, 1) := by decide +kernel
theorem dX1_lend_73 : decode cX1_lend 73 = .ok (.aload_n 0, 1) := by decide +kernel
theorem dX1_lend_74 : decode cX1_lend 74 = .ok (.getfield 57, 3) := by decide +kernel
theorem dX1_lend_77 : decode cX1_lend 77 = .ok (.aload_n 0, 1) := by decide +kernel
theorem dX1_lend_78 : decode cX1_lend 78 = .ok (.getfield 332, 3) := by decide +kernel
theorem dX1_lend_81 : decode cX1_lend 81 = .ok (.new 55, 3) := by decide +kernel
theorem dX1_lend_84 : decode cX1_lend 84 = .ok (.dup, 1) := by decide +kernel
theorem dX1_lend_85 : decode cX1_lend 85 = .ok (.iload_n 1, 1) := by decide +kernel
theorem dX1_lend_86 : decode cX1_lend 86 = .ok (.iload_n 2, 1) := by decide +kernel
theorem dX1_lend_87 : decode cX1_lend 87 = .ok (.iload_n 3, 1) := by decide +kernel
theorem dX1_lend_88 : decode cX1_lend 88 = .ok (.iload 4, 2) := by decide +kernel
theorem dX1_lend_90 : decode cX1_lend 90 = .ok (.iload 5, 2) := by decide +kernel
theorem dX1_lend_92 : decode cX1_lend 92 = .ok (.invokespecial 335, 3) := by decide +kernel
theorem dX1_lend_95 : decode cX1_lend 95 = .ok (.aastore, 1) := by decide +kernel
theorem dX1_lend_96 : decode cX1_lend 96 = .ok (.aload_n 0, 1) := by decide +kernel
theorem dX1_lend_97 : decode cX1_lend 97 = .ok (.dup, 1) := by decide +kernel
theorem dX1_lend_98 : decode cX1_lend 98 = .ok (.getfield 332, 3) := by decide +kernel
theorem dX1_lend_101 : decode cX1_lend 101 = .ok (.iconst 1, 1) := by decide +kernel
theorem dX1_lend_102 : decode cX1_lend 102 = .ok (.iadd, 1) := by decide +kernel
theorem dX1_lend_103 : decode cX1_lend 103 = .ok (.putfield 332, 3) := by decide +kernel
theorem dX1_lend_106 : decode cX1_lend 106 = .ok (.aload_n 0, 1) := by decide +kernel
theorem dX1_lend_107 : decode cX1_lend 107 = .ok (.getfield 332, 3) := by decide +kernel
theorem dX1_lend_110 : decode cX1_lend 110 = .ok (.ireturn, 1) := by decide +kernel
theorem dX1_units_0 : decode cX1_units 0 = .ok (.iload_n 1, 1) := by decide +kernel
theorem dX1_units_1 : decode cX1_units 1 = .ok (.invokestatic 329, 3) := by decide +kernel
theorem dX1_units_4 : decode cX1_units 4 = .ok (.aload_n 0, 1) := by decide +kernel
theorem dX1_units_5 : decode cX1_units 5 = .ok (.iload_n 1, 1) := by decide +kernel
theorem dX1_units_6 : decode cX1_units 6 = .ok (.iload_n 2, 1) := by decide +kernel
theorem dX1_units_7 : decode cX1_units 7 = .ok (.invokevirtual 347, 3) := by decide +kernel
theorem dX1_units_10 : decode cX1_units 10 = .ok (.ireturn, 1) := by decide +kernel
theorem dX1_unitsOf_0 : decode cX1_unitsOf 0 = .ok (.bipush 8, 2) := by decide +kernel
theorem dX1_unitsOf_2 : decode cX1_unitsOf 2 = .ok (.aload_n 0, 1) := by decide +kernel
theorem dX1_unitsOf_3 : decode cX1_unitsOf 3 = .ok (.getfield 61, 3) := by decide +kernel
theorem dX1_unitsOf_6 : decode cX1_unitsOf 6 = .ok (.iload_n 1, 1) := by decide +kernel
theorem dX1_unitsOf_7 : decode cX1_unitsOf 7 = .ok (.iaload, 1) := by decide +kernel
theorem dX1_unitsOf_8 : decode cX1_unitsOf 8 = .ok (.imul, 1) := by decide +kernel
theorem dX1_unitsOf_9 : decode cX1_unitsOf 9 = .ok (.istore_n 3, 1) := by decide +kernel
theorem dX1_unitsOf_10 : decode cX1_unitsOf 10 = .ok (.iconst 0, 1) := by decide +kernel
theorem dX1_unitsOf_11 : decode cX1_unitsOf 11 = .ok (.istore 4, 2) := by decide +kernel
theorem dX1_unitsOf_13 : decode cX1_unitsOf 13 = .ok (.iload 4, 2) := by decide +kernel
theorem dX1_unitsOf_15 : decode cX1_unitsOf 15 = .ok (.aload_n 0, 1) := by decide +kernel
theorem dX1_unitsOf_16 : decode cX1_unitsOf 16 = .ok (.getfield 332, 3) := by decide +kernel
theorem dX1_unitsOf_19 : decode cX1_unitsOf 19 = .ok (.if_icmp .ge 41, 3) := by decide +kernel
theorem dX1_unitsOf_22 : decode cX1_unitsOf 22 = .ok (.iload_n 3, 1) := by decide +kernel
theorem dX1_unitsOf_23 : decode cX1_unitsOf 23 = .ok (.aload_n 0, 1) := by decide +kernel
theorem dX1_unitsOf_24 : decode cX1_unitsOf 24 = .ok (.getfield 57, 3) := by decide +kernel
theorem dX1_unitsOf_27 : decode cX1_unitsOf 27 = .ok (.iload 4, 2) := by decide +kernel
theorem dX1_unitsOf_29 : decode cX1_unitsOf 29 = .ok (.aaload, 1) := by decide +kernel
theorem dX1_unitsOf_30 : decode cX1_unitsOf 30 = .ok (.getfield 338, 3) := by decide +kernel
theorem dX1_unitsOf_33 : decode cX1_unitsOf 33 = .ok (.iload_n 1, 1) := by decide +kernel
theorem dX1_unitsOf_34 : decode cX1_unitsOf 34 = .ok (.if_icmp .ne 17, 3) := by decide +kernel
theorem dX1_unitsOf_37 : decode cX1_unitsOf 37 = .ok (.aload_n 0, 1) := by decide +kernel
theorem dX1_unitsOf_38 : decode cX1_unitsOf 38 = .ok (.getfield 57, 3) := by decide +kernel
theorem dX1_unitsOf_41 : decode cX1_unitsOf 41 = .ok (.iload 4, 2) := by decide +kernel
theorem dX1_unitsOf_43 : decode cX1_unitsOf 43 = .ok (.aaload, 1) := by decide +kernel
theorem dX1_unitsOf_44 : decode cX1_unitsOf 44 = .ok (.iload_n 2, 1) := by decide +kernel
theorem dX1_unitsOf_45 : decode cX1_unitsOf 45 = .ok (.invokevirtual 341, 3) := by decide +kernel
theorem dX1_unitsOf_48 : decode cX1_unitsOf 48 = .ok (.goto 4, 3) := by decide +kernel
theorem dX1_unitsOf_51 : decode cX1_unitsOf 51 = .ok (.iconst 0, 1) := by decide +kernel
theorem dX1_unitsOf_52 : decode cX1_unitsOf 52 = .ok (.iadd, 1) := by decide +kernel
theorem dX1_unitsOf_53 : decode cX1_unitsOf 53 = .ok (.istore_n 3, 1) := by decide +kernel
theorem dX1_unitsOf_54 : decode cX1_unitsOf 54 = .ok (.iinc 4 1, 3) := by decide +kernel
theorem dX1_unitsOf_57 : decode cX1_unitsOf 57 = .ok (.goto (-44), 3) := by decide +kernel
theorem dX1_unitsOf_60 : decode cX1_unitsOf 60 = .ok (.iconst 0, 1) := by decide +kernel
theorem dX1_unitsOf_61 : decode cX1_unitsOf 61 = .ok (.iload_n 3, 1) := by decide +kernel
theorem dX1_unitsOf_62 : decode cX1_unitsOf 62 = .ok (.invokestatic 344, 3) := by decide +kernel
theorem dX1_unitsOf_65 : decode cX1_unitsOf 65 = .ok (.ireturn, 1) := by decide +kernel
theorem dX1_rules_0 : decode cX1_rules 0 = .ok (.iload_n 1, 1) := by decide +kernel
theorem dX1_rules_1 : decode cX1_rules 1 = .ok (.iconst 1, 1) := by decide +kernel
theorem dX1_rules_2 : decode cX1_rules 2 = .ok (.sipush 200, 3) := by decide +kernel
theorem dX1_rules_5 : decode cX1_rules 5 = .ok (.invokestatic 114, 3) := by decide +kernel
theorem dX1_rules_8 : decode cX1_rules 8 = .ok (.ifCond .eq 51, 3) := by decide +kernel
theorem dX1_rules_11 : decode cX1_rules 11 = .ok (.iload_n 2, 1) := by decide +kernel
theorem dX1_rules_12 : decode cX1_rules 12 = .ok (.iconst 0, 1) := by decide +kernel
theorem dX1_rules_13 : decode cX1_rules 13 = .ok (.sipush 10000, 3) := by decide +kernel
theorem dX1_rules_16 : decode cX1_rules 16 = .ok (.invokestatic 114, 3) := by decide +kernel
theorem dX1_rules_19 : decode cX1_rules 19 = .ok (.ifCond .eq 40, 3) := by decide +kernel
theorem dX1_rules_22 : decode cX1_rules 22 = .ok (.iload_n 3, 1) := by decide +kernel
theorem dX1_rules_23 : decode cX1_rules 23 = .ok (.iconst 0, 1) := by decide +kernel
theorem dX1_rules_24 : decode cX1_rules 24 = .ok (.sipush 1000, 3) := by decide +kernel
theorem dX1_rules_27 : decode cX1_rules 27 = .ok (.invokestatic 114, 3) := by decide +kernel
theorem dX1_rules_30 : decode cX1_rules 30 = .ok (.ifCond .eq 29, 3) := by decide +kernel
theorem dX1_rules_33 : decode cX1_rules 33 = .ok (.iload 4, 2) := by decide +kernel
theorem dX1_rules_35 : decode cX1_rules 35 = .ok (.iconst 0, 1) := by decide +kernel
theorem dX1_rules_36 : decode cX1_rules 36 = .ok (.bipush 60, 2) := by decide +kernel
theorem dX1_rules_38 : decode cX1_rules 38 = .ok (.invokestatic 114, 3) := by decide +kernel
theorem dX1_rules_41 : decode cX1_rules 41 = .ok (.ifCond .eq 18, 3) := by decide +kernel
theorem dX1_rules_44 : decode cX1_rules 44 = .ok (.iload 5, 2) := by decide +kernel
theorem dX1_rules_46 : decode cX1_rules 46 = .ok (.iconst 0, 1) := by decide +kernel
theorem dX1_rules_47 : decode cX1_rules 47 = .ok (.bipush 60, 2) := by decide +kernel
theorem dX1_rules_49 : decode cX1_rules 49 = .ok (.invokestatic 114, 3) := by decide +kernel
theorem dX1_rules_52 : decode cX1_rules 52 = .ok (.ifCond .eq 7, 3) := by decide +kernel
theorem dX1_rules_55 : decode cX1_rules 55 = .ok (.iconst 1, 1) := by decide +kernel
theorem dX1_rules_56 : decode cX1_rules 56 = .ok (.goto 4, 3) := by decide +kernel
theorem dX1_rules_59 : decode cX1_rules 59 = .ok (.iconst 0, 1) := by decide +kernel
theorem dX1_rules_60 : decode cX1_rules 60 = .ok (.invokestatic 143, 3) := by decide +kernel
theorem dX1_rules_63 : decode cX1_rules 63 = .ok (.aload_n 0, 1) := by decide +kernel
theorem dX1_rules_64 : decode cX1_rules 64 = .ok (.iload_n 1, 1) := by decide +kernel
theorem dX1_rules_65 : decode cX1_rules 65 = .ok (.putfield 74, 3) := by decide +kernel
theorem dX1_rules_68 : decode cX1_rules 68 = .ok (.aload_n 0, 1) := by decide +kernel
theorem dX1_rules_69 : decode cX1_rules 69 = .ok (.iload_n 2, 1) := by decide +kernel
theorem dX1_rules_70 : decode cX1_rules 70 = .ok (.putfield 78, 3) := by decide +kernel
theorem dX1_rules_73 : decode cX1_rules 73 = .ok (.aload_n 0, 1) := by decide +kernel
theorem dX1_rules_74 : decode cX1_rules 74 = .ok (.iload_n 3, 1) := by decide +kernel
theorem dX1_rules_75 : decode cX1_rules 75 = .ok (.putfield 81, 3) := by decide +kernel
theorem dX1_rules_78 : decode cX1_rules 78 = .ok (.aload_n 0, 1) := by decide +kernel
theorem dX1_rules_79 : decode cX1_rules 79 = .ok (.iload 4, 2) := by decide +kernel
theorem dX1_rules_81 : decode cX1_rules 81 = .ok (.putfield 84, 3) := by decide +kernel
theorem dX1_rules_84 : decode cX1_rules 84 = .ok (.aload_n 0, 1) := by decide +kernel
theorem dX1_rules_85 : decode cX1_rules 85 = .ok (.iload 5, 2) := by decide +kernel
theorem dX1_rules_87 : decode cX1_rules 87 = .ok (.putfield 87, 3) := by decide +kernel
theorem dX1_rules_90 : decode cX1_rules 90 = .ok (.return_, 1) := by decide +kernel
theorem dX1_order_0 : decode cX1_order 0 = .ok (.iload_n 1, 1) := by decide +kernel
theorem dX1_order_1 : decode cX1_order 1 = .ok (.iconst 0, 1) := by decide +kernel
theorem dX1_order_2 : decode cX1_order 2 = .ok (.iconst 2, 1) := by decide +kernel
theorem dX1_order_3 : decode cX1_order 3 = .ok (.invokestatic 114, 3) := by decide +kernel
theorem dX1_order_6 : decode cX1_order 6 = .ok (.invokestatic 143, 3) := by decide +kernel
theorem dX1_order_9 : decode cX1_order 9 = .ok (.aload_n 0, 1) := by decide +kernel
theorem dX1_order_10 : decode cX1_order 10 = .ok (.iload_n 1, 1) := by decide +kernel
theorem dX1_order_11 : decode cX1_order 11 = .ok (.putfield 350, 3) := by decide +kernel
theorem dX1_order_14 : decode cX1_order 14 = .ok (.return_, 1) := by decide +kernel
theorem dX1_blanks_0 : decode cX1_blanks 0 = .ok (.iload_n 1, 1) := by decide +kernel
theorem dX1_blanks_1 : decode cX1_blanks 1 = .ok (.iconst 0, 1) := by decide +kernel
theorem dX1_blanks_2 : decode cX1_blanks 2 = .ok (.sipush 1000, 3) := by decide +kernel
theorem dX1_blanks_5 : decode cX1_blanks 5 = .ok (.invokestatic 114, 3) := by decide +kernel
theorem dX1_blanks_8 : decode cX1_blanks 8 = .ok (.ifCond .eq 22, 3) := by decide +kernel
theorem dX1_blanks_11 : decode cX1_blanks 11 = .ok (.aload_n 0, 1) := by decide +kernel
theorem dX1_blanks_12 : decode cX1_blanks 12 = .ok (.getfield 42, 3) := by decide +kernel
theorem dX1_blanks_15 : decode cX1_blanks 15 = .ok (.getfield 353, 3) := by decide +kernel
theorem dX1_blanks_18 : decode cX1_blanks 18 = .ok (.iload_n 1, 1) := by decide +kernel
theorem dX1_blanks_19 : decode cX1_blanks 19 = .ok (.iadd, 1) := by decide +kernel
theorem dX1_blanks_20 : decode cX1_blanks 20 = .ok (.sipush 10000, 3) := by decide +kernel
theorem dX1_blanks_23 : decode cX1_blanks 23 = .ok (.if_icmp .gt 7, 3) := by decide +kernel
theorem dX1_blanks_26 : decode cX1_blanks 26 = .ok (.iconst 1, 1) := by decide +kernel
theorem dX1_blanks_27 : decode cX1_blanks 27 = .ok (.goto 4, 3) := by decide +kernel
theorem dX1_blanks_30 : decode cX1_blanks 30 = .ok (.iconst 0, 1) := by decide +kernel
theorem dX1_blanks_31 : decode cX1_blanks 31 = .ok (.invokestatic 143, 3) := by decide +kernel
theorem dX1_blanks_34 : decode cX1_blanks 34 = .ok (.aload_n 0, 1) := by decide +kernel
theorem dX1_blanks_35 : decode cX1_blanks 35 = .ok (.getfield 42, 3) := by decide +kernel
theorem dX1_blanks_38 : decode cX1_blanks 38 = .ok (.dup, 1) := by decide +kernel
theorem dX1_blanks_39 : decode cX1_blanks 39 = .ok (.getfield 353, 3) := by decide +kernel
theorem dX1_blanks_42 : decode cX1_blanks 42 = .ok (.iload_n 1, 1) := by decide +kernel
theorem dX1_blanks_43 : decode cX1_blanks 43 = .ok (.iadd, 1) := by decide +kernel
theorem dX1_blanks_44 : decode cX1_blanks 44 = .ok (.putfield 353, 3) := by decide +kernel
theorem dX1_blanks_47 : decode cX1_blanks 47 = .ok (.aload_n 0, 1) := by decide +kernel
theorem dX1_blanks_48 : decode cX1_blanks 48 = .ok (.getfield 42, 3) := by decide +kernel
theorem dX1_blanks_51 : decode cX1_blanks 51 = .ok (.getfield 353, 3) := by decide +kernel
theorem dX1_blanks_54 : decode cX1_blanks 54 = .ok (.ireturn, 1) := by decide +kernel
theorem dX1_broken_0 : decode cX1_broken 0 = .ok (.iload_n 1, 1) := by decide +kernel
theorem dX1_broken_1 : decode cX1_broken 1 = .ok (.iload_n 2, 1) := by decide +kernel
theorem dX1_broken_2 : decode cX1_broken 2 = .ok (.if_icmp .gt 7, 3) := by decide +kernel
theorem dX1_broken_5 : decode cX1_broken 5 = .ok (.iconst 1, 1) := by decide +kernel
theorem dX1_broken_6 : decode cX1_broken 6 = .ok (.goto 4, 3) := by decide +kernel
theorem dX1_broken_9 : decode cX1_broken 9 = .ok (.iconst 0, 1) := by decide +kernel
theorem dX1_broken_10 : decode cX1_broken 10 = .ok (.invokestatic 143, 3) := by decide +kernel
theorem dX1_broken_13 : decode cX1_broken 13 = .ok (.aload_n 0, 1) := by decide +kernel
theorem dX1_broken_14 : decode cX1_broken 14 = .ok (.iload_n 1, 1) := by decide +kernel
theorem dX1_broken_15 : decode cX1_broken 15 = .ok (.putfield 90, 3) := by decide +kernel
theorem dX1_broken_18 : decode cX1_broken 18 = .ok (.aload_n 0, 1) := by decide +kernel
theorem dX1_broken_19 : decode cX1_broken 19 = .ok (.iload_n 2, 1) := by decide +kernel
theorem dX1_broken_20 : decode cX1_broken 20 = .ok (.putfield 93, 3) := by decide +kernel
theorem dX1_broken_23 : decode cX1_broken 23 = .ok (.return_, 1) := by decide +kernel
theorem dX1_days_0 : decode cX1_days 0 = .ok (.iload_n 1, 1) := by decide +kernel
theorem dX1_days_1 : decode cX1_days 1 = .ok (.iconst 0, 1) := by decide +kernel
theorem dX1_days_2 : decode cX1_days 2 = .ok (.bipush 60, 2) := by decide +kernel
theorem dX1_days_4 : decode cX1_days 4 = .ok (.invokestatic 114, 3) := by decide +kernel
theorem dX1_days_7 : decode cX1_days 7 = .ok (.invokestatic 143, 3) := by decide +kernel
theorem dX1_days_10 : decode cX1_days 10 = .ok (.iconst 0, 1) := by decide +kernel
theorem dX1_days_11 : decode cX1_days 11 = .ok (.istore_n 2, 1) := by decide +kernel
theorem dX1_days_12 : decode cX1_days 12 = .ok (.iload_n 2, 1) := by decide +kernel
theorem dX1_days_13 : decode cX1_days 13 = .ok (.iload_n 1, 1) := by decide +kernel
theorem dX1_days_14 : decode cX1_days 14 = .ok (.if_icmp .ge 50, 3) := by decide +kernel
theorem dX1_days_17 : decode cX1_days 17 = .ok (.aload_n 0, 1) := by decide +kernel
theorem dX1_days_18 : decode cX1_days 18 = .ok (.getfield 42, 3) := by decide +kernel
theorem dX1_days_21 : decode cX1_days 21 = .ok (.getfield 140, 3) := by decide +kernel
theorem dX1_days_24 : decode cX1_days 24 = .ok (.sipush 1000, 3) := by decide +kernel
theorem dX1_days_27 : decode cX1_days 27 = .ok (.if_icmp .ge 37, 3) := by decide +kernel
theorem dX1_days_30 : decode cX1_days 30 = .ok (.aload_n 0, 1) := by decide +kernel
theorem dX1_days_31 : decode cX1_days 31 = .ok (.aload_n 0, 1) := by decide +kernel
theorem dX1_days_32 : decode cX1_days 32 = .ok (.getfield 42, 3) := by decide +kernel
theorem dX1_days_35 : decode cX1_days 35 = .ok (.aload_n 0, 1) := by decide +kernel
theorem dX1_days_36 : decode cX1_days 36 = .ok (.getfield 350, 3) := by decide +kernel
theorem dX1_days_39 : decode cX1_days 39 = .ok (.invokevirtual 407, 3) := by decide +kernel
theorem dX1_days_42 : decode cX1_days 42 = .ok (.aload_n 0, 1) := by decide +kernel
theorem dX1_days_43 : decode cX1_days 43 = .ok (.dup, 1) := by decide +kernel
theorem dX1_days_44 : decode cX1_days 44 = .ok (.getfield 410, 3) := by decide +kernel
theorem dX1_days_47 : decode cX1_days 47 = .ok (.aload_n 0, 1) := by decide +kernel
theorem dX1_days_48 : decode cX1_days 48 = .ok (.getfield 42, 3) := by decide +kernel
theorem dX1_days_51 : decode cX1_days 51 = .ok (.getfield 384, 3) := by decide +kernel
theorem dX1_days_54 : decode cX1_days 54 = .ok (.iadd, 1) := by decide +kernel
theorem dX1_days_55 : decode cX1_days 55 = .ok (.putfield 410, 3) := by decide +kernel
theorem dX1_days_58 : decode cX1_days 58 = .ok (.iinc 2 1, 3) := by decide +kernel
theorem dX1_days_61 : decode cX1_days 61 = .ok (.goto (-49), 3) := by decide +kernel
theorem dX1_days_64 : decode cX1_days 64 = .ok (.aload_n 0, 1) := by decide +kernel
theorem dX1_days_65 : decode cX1_days 65 = .ok (.getfield 42, 3) := by decide +kernel
theorem dX1_days_68 : decode cX1_days 68 = .ok (.getfield 140, 3) := by decide +kernel
theorem dX1_days_71 : decode cX1_days 71 = .ok (.ireturn, 1) := by decide +kernel
theorem dX1_day_0 : decode cX1_day 0 = .ok (.aload_n 1, 1) := by decide +kernel
theorem dX1_day_1 : decode cX1_day 1 = .ok (.dup, 1) := by decide +kernel
theorem dX1_day_2 : decode cX1_day 2 = .ok (.getfield 140, 3) := by decide +kernel
theorem dX1_day_5 : decode cX1_day 5 = .ok (.iconst 1, 1) := by decide +kernel
theorem dX1_day_6 : decode cX1_day 6 = .ok (.iadd, 1) := by decide +kernel
theorem dX1_day_7 : decode cX1_day 7 = .ok (.putfield 140, 3) := by decide +kernel
theorem dX1_day_10 : decode cX1_day 10 = .ok (.iconst 0, 1) := by decide +kernel
theorem dX1_day_11 : decode cX1_day 11 = .ok (.istore_n 3, 1) := by decide +kernel
theorem dX1_day_12 : decode cX1_day 12 = .ok (.iload_n 3, 1) := by decide +kernel
theorem dX1_day_13 : decode cX1_day 13 = .ok (.aload_n 0, 1) := by decide +kernel
theorem dX1_day_14 : decode cX1_day 14 = .ok (.getfield 122, 3) := by decide +kernel
theorem dX1_day_17 : decode cX1_day 17 = .ok (.if_icmp .ge 45, 3) := by decide +kernel
theorem dX1_day_20 : decode cX1_day 20 = .ok (.aload_n 1, 1) := by decide +kernel
theorem dX1_day_21 : decode cX1_day 21 = .ok (.getfield 232, 3) := by decide +kernel
theorem dX1_day_24 : decode cX1_day 24 = .ok (.iload_n 3, 1) := by decide +kernel
theorem dX1_day_25 : decode cX1_day 25 = .ok (.aaload, 1) := by decide +kernel
theorem dX1_day_26 : decode cX1_day 26 = .ok (.getfield 236, 3) := by decide +kernel
theorem dX1_day_29 : decode cX1_day 29 = .ok (.bipush 6, 2) := by decide +kernel
theorem dX1_day_31 : decode cX1_day 31 = .ok (.if_icmp .ne 25, 3) := by decide +kernel
theorem dX1_day_34 : decode cX1_day 34 = .ok (.aload_n 1, 1) := by decide +kernel
theorem dX1_day_35 : decode cX1_day 35 = .ok (.getfield 232, 3) := by decide +kernel
theorem dX1_day_38 : decode cX1_day 38 = .ok (.iload_n 3, 1) := by decide +kernel
theorem dX1_day_39 : decode cX1_day 39 = .ok (.aaload, 1) := by decide +kernel
theorem dX1_day_40 : decode cX1_day 40 = .ok (.getfield 305, 3) := by decide +kernel
theorem dX1_day_43 : decode cX1_day 43 = .ok (.aload_n 1, 1) := by decide +kernel
theorem dX1_day_44 : decode cX1_day 44 = .ok (.getfield 140, 3) := by decide +kernel
theorem dX1_day_47 : decode cX1_day 47 = .ok (.if_icmp .gt 9, 3) := by decide +kernel
theorem dX1_day_50 : decode cX1_day 50 = .ok (.aload_n 0, 1) := by decide +kernel
theorem dX1_day_51 : decode cX1_day 51 = .ok (.aload_n 1, 1) := by decide +kernel
theorem dX1_day_52 : decode cX1_day 52 = .ok (.iload_n 3, 1) := by decide +kernel
theorem dX1_day_53 : decode cX1_day 53 = .ok (.invokevirtual 376, 3) := by decide +kernel
theorem dX1_day_56 : decode cX1_day 56 = .ok (.iinc 3 1, 3) := by decide +kernel
theorem dX1_day_59 : decode cX1_day 59 = .ok (.goto (-47), 3) := by decide +kernel
theorem dX1_day_62 : decode cX1_day 62 = .ok (.aload_n 1, 1) := by decide +kernel
theorem dX1_day_63 : decode cX1_day 63 = .ok (.aload_n 0, 1) := by decide +kernel
theorem dX1_day_64 : decode cX1_day 64 = .ok (.aload_n 1, 1) := by decide +kernel
theorem dX1_day_65 : decode cX1_day 65 = .ok (.invokevirtual 380, 3) := by decide +kernel
theorem dX1_day_68 : decode cX1_day 68 = .ok (.putfield 384, 3) := by decide +kernel
theorem dX1_day_71 : decode cX1_day 71 = .ok (.aload_n 1, 1) := by decide +kernel
theorem dX1_day_72 : decode cX1_day 72 = .ok (.iconst 0, 1) := by decide +kernel
theorem dX1_day_73 : decode cX1_day 73 = .ok (.putfield 387, 3) := by decide +kernel
theorem dX1_day_76 : decode cX1_day 76 = .ok (.iconst 0, 1) := by decide +kernel
theorem dX1_day_77 : decode cX1_day 77 = .ok (.istore_n 3, 1) := by decide +kernel
theorem dX1_day_78 : decode cX1_day 78 = .ok (.iload_n 3, 1) := by decide +kernel
theorem dX1_day_79 : decode cX1_day 79 = .ok (.iconst 4, 1) := by decide +kernel
theorem dX1_day_80 : decode cX1_day 80 = .ok (.if_icmp .ge 55, 3) := by decide +kernel
theorem dX1_day_83 : decode cX1_day 83 = .ok (.aload_n 0, 1) := by decide +kernel
theorem dX1_day_84 : decode cX1_day 84 = .ok (.iload_n 3, 1) := by decide +kernel
theorem dX1_day_85 : decode cX1_day 85 = .ok (.aload_n 1, 1) := by decide +kernel
theorem dX1_day_86 : decode cX1_day 86 = .ok (.getfield 140, 3) := by decide +kernel
theorem dX1_day_89 : decode cX1_day 89 = .ok (.invokevirtual 347, 3) := by decide +kernel
theorem dX1_day_92 : decode cX1_day 92 = .ok (.istore 4, 2) := by decide +kernel
theorem dX1_day_94 : decode cX1_day 94 = .ok (.iload_n 3, 1) := by decide +kernel
theorem dX1_day_95 : decode cX1_day 95 = .ok (.ifCond .ne 16, 3) := by decide +kernel
theorem dX1_day_98 : decode cX1_day 98 = .ok (.iconst 0, 1) := by decide +kernel
theorem dX1_day_99 : decode cX1_day 99 = .ok (.iload 4, 2) := by decide +kernel
theorem dX1_day_101 : decode cX1_day 101 = .ok (.aload_n 1, 1) := by decide +kernel
theorem dX1_day_102 : decode cX1_day 102 = .ok (.getfield 384, 3) := by decide +kernel
theorem dX1_day_105 : decode cX1_day 105 = .ok (.isub, 1) := by decide +kernel
theorem dX1_day_106 : decode cX1_day 106 = .ok (.invokestatic 344, 3) := by decide +kernel
theorem dX1_day_109 : decode cX1_day 109 = .ok (.istore 4, 2) := by decide +kernel
theorem dX1_day_111 : decode cX1_day 111 = .ok (.aload_n 1, 1) := by decide +kernel
theorem dX1_day_112 : decode cX1_day 112 = .ok (.dup, 1) := by decide +kernel
theorem dX1_day_113 : decode cX1_day 113 = .ok (.getfield 387, 3) := by decide +kernel
theorem dX1_day_116 : decode cX1_day 116 = .ok (.aload_n 0, 1) := by decide +kernel
theorem dX1_day_117 : decode cX1_day 117 = .ok (.aload_n 1, 1) := by decide +kernel
theorem dX1_day_118 : decode cX1_day 118 = .ok (.iload_n 3, 1) := by decide +kernel
theorem dX1_day_119 : decode cX1_day 119 = .ok (.iload_n 2, 1) := by decide +kernel
theorem dX1_day_120 : decode cX1_day 120 = .ok (.iload 4, 2) := by decide +kernel
theorem dX1_day_122 : decode cX1_day 122 = .ok (.invokevirtual 390, 3) := by decide +kernel
theorem dX1_day_125 : decode cX1_day 125 = .ok (.iadd, 1) := by decide +kernel
theorem dX1_day_126 : decode cX1_day 126 = .ok (.putfield 387, 3) := by decide +kernel
theorem dX1_day_129 : decode cX1_day 129 = .ok (.iinc 3 1, 3) := by decide +kernel
theorem dX1_day_132 : decode cX1_day 132 = .ok (.goto (-54), 3) := by decide +kernel
theorem dX1_day_135 : decode cX1_day 135 = .ok (.return_, 1) := by decide +kernel
theorem dX1_gets_0 : decode cX1_gets 0 = .ok (.aload_n 1, 1) := by decide +kernel
theorem dX1_gets_1 : decode cX1_gets 1 = .ok (.getfield 232, 3) := by decide +kernel
theorem dX1_gets_4 : decode cX1_gets 4 = .ok (.iload_n 2, 1) := by decide +kernel
theorem dX1_gets_5 : decode cX1_gets 5 = .ok (.aaload, 1) := by decide +kernel
theorem dX1_gets_6 : decode cX1_gets 6 = .ok (.astore_n 3, 1) := by decide +kernel
theorem dX1_gets_7 : decode cX1_gets 7 = .ok (.aload_n 3, 1) := by decide +kernel
theorem dX1_gets_8 : decode cX1_gets 8 = .ok (.bipush 7, 2) := by decide +kernel
theorem dX1_gets_10 : decode cX1_gets 10 = .ok (.putfield 236, 3) := by decide +kernel
theorem dX1_gets_13 : decode cX1_gets 13 = .ok (.aload_n 3, 1) := by decide +kernel
theorem dX1_gets_14 : decode cX1_gets 14 = .ok (.aload_n 1, 1) := by decide +kernel
theorem dX1_gets_15 : decode cX1_gets 15 = .ok (.getfield 140, 3) := by decide +kernel
theorem dX1_gets_18 : decode cX1_gets 18 = .ok (.putfield 323, 3) := by decide +kernel
theorem dX1_gets_21 : decode cX1_gets 21 = .ok (.aload_n 0, 1) := by decide +kernel
theorem dX1_gets_22 : decode cX1_gets 22 = .ok (.getfield 35, 3) := by decide +kernel
theorem dX1_gets_25 : decode cX1_gets 25 = .ok (.iload_n 2, 1) := by decide +kernel
theorem dX1_gets_26 : decode cX1_gets 26 = .ok (.aaload, 1) := by decide +kernel
theorem dX1_gets_27 : decode cX1_gets 27 = .ok (.getfield 222, 3) := by decide +kernel
theorem dX1_gets_30 : decode cX1_gets 30 = .ok (.astore 4, 2) := by decide +kernel
theorem dX1_gets_32 : decode cX1_gets 32 = .ok (.aload 4, 2) := by decide +kernel
theorem dX1_gets_34 : decode cX1_gets 34 = .ok (.getfield 261, 3) := by decide +kernel
theorem dX1_gets_37 : decode cX1_gets 37 = .ok (.iconst (-1), 1) := by decide +kernel
theorem dX1_gets_38 : decode cX1_gets 38 = .ok (.if_icmp .eq 33, 3) := by decide +kernel
theorem dX1_gets_41 : decode cX1_gets 41 = .ok (.aload_n 1, 1) := by decide +kernel
theorem dX1_gets_42 : decode cX1_gets 42 = .ok (.getfield 140, 3) := by decide +kernel
theorem dX1_gets_45 : decode cX1_gets 45 = .ok (.aload_n 0, 1) := by decide +kernel
theorem dX1_gets_46 : decode cX1_gets 46 = .ok (.getfield 35, 3) := by decide +kernel
theorem dX1_gets_49 : decode cX1_gets 49 = .ok (.iload_n 2, 1) := by decide +kernel
theorem dX1_gets_50 : decode cX1_gets 50 = .ok (.aaload, 1) := by decide +kernel
theorem dX1_gets_51 : decode cX1_gets 51 = .ok (.getfield 314, 3) := by decide +kernel
theorem dX1_gets_54 : decode cX1_gets 54 = .ok (.aload 4, 2) := by decide +kernel
theorem dX1_gets_56 : decode cX1_gets 56 = .ok (.getfield 261, 3) := by decide +kernel
theorem dX1_gets_59 : decode cX1_gets 59 = .ok (.iadd, 1) := by decide +kernel
theorem dX1_gets_60 : decode cX1_gets 60 = .ok (.if_icmp .le 11, 3) := by decide +kernel
theorem dX1_gets_63 : decode cX1_gets 63 = .ok (.aload_n 1, 1) := by decide +kernel
theorem dX1_gets_64 : decode cX1_gets 64 = .ok (.aload_n 0, 1) := by decide +kernel
theorem dX1_gets_65 : decode cX1_gets 65 = .ok (.getfield 42, 3) := by decide +kernel
theorem dX1_gets_68 : decode cX1_gets 68 = .ok (.if_acmp .eq 4, 3) := by decide +kernel
theorem dX1_gets_71 : decode cX1_gets 71 = .ok (.return_, 1) := by decide +kernel
theorem dX1_gets_72 : decode cX1_gets 72 = .ok (.aload_n 3, 1) := by decide +kernel
theorem dX1_gets_73 : decode cX1_gets 73 = .ok (.iconst 1, 1) := by decide +kernel
theorem dX1_gets_74 : decode cX1_gets 74 = .ok (.putfield 317, 3) := by decide +kernel
theorem dX1_gets_77 : decode cX1_gets 77 = .ok (.aload_n 0, 1) := by decide +kernel
theorem dX1_gets_78 : decode cX1_gets 78 = .ok (.dup, 1) := by decide +kernel
theorem dX1_gets_79 : decode cX1_gets 79 = .ok (.getfield 374, 3) := by decide +kernel
theorem dX1_gets_82 : decode cX1_gets 82 = .ok (.aload 4, 2) := by decide +kernel
theorem dX1_gets_84 : decode cX1_gets 84 = .ok (.getfield 255, 3) := by decide +kernel
theorem dX1_gets_87 : decode cX1_gets 87 = .ok (.iadd, 1) := by decide +kernel
theorem dX1_gets_88 : decode cX1_gets 88 = .ok (.putfield 374, 3) := by decide +kernel
theorem dX1_gets_91 : decode cX1_gets 91 = .ok (.return_, 1) := by decide +kernel
theorem dX1_callsOf_0 : decode cX1_callsOf 0 = .ok (.iconst 0, 1) := by decide +kernel
theorem dX1_callsOf_1 : decode cX1_callsOf 1 = .ok (.istore_n 2, 1) := by decide +kernel
theorem dX1_callsOf_2 : decode cX1_callsOf 2 = .ok (.iconst 0, 1) := by decide +kernel
theorem dX1_callsOf_3 : decode cX1_callsOf 3 = .ok (.istore_n 3, 1) := by decide +kernel
theorem dX1_callsOf_4 : decode cX1_callsOf 4 = .ok (.iload_n 3, 1) := by decide +kernel
theorem dX1_callsOf_5 : decode cX1_callsOf 5 = .ok (.aload_n 0, 1) := by decide +kernel
theorem dX1_callsOf_6 : decode cX1_callsOf 6 = .ok (.getfield 122, 3) := by decide +kernel
theorem dX1_callsOf_9 : decode cX1_callsOf 9 = .ok (.if_icmp .ge 51, 3) := by decide +kernel
theorem dX1_callsOf_12 : decode cX1_callsOf 12 = .ok (.iload_n 2, 1) := by decide +kernel
theorem dX1_callsOf_13 : decode cX1_callsOf 13 = .ok (.aload_n 1, 1) := by decide +kernel
theorem dX1_callsOf_14 : decode cX1_callsOf 14 = .ok (.getfield 232, 3) := by decide +kernel
theorem dX1_callsOf_17 : decode cX1_callsOf 17 = .ok (.iload_n 3, 1) := by decide +kernel
theorem dX1_callsOf_18 : decode cX1_callsOf 18 = .ok (.aaload, 1) := by decide +kernel
theorem dX1_callsOf_19 : decode cX1_callsOf 19 = .ok (.getfield 236, 3) := by decide +kernel
theorem dX1_callsOf_22 : decode cX1_callsOf 22 = .ok (.iconst 5, 1) := by decide +kernel
theorem dX1_callsOf_23 : decode cX1_callsOf 23 = .ok (.if_icmp .gt 28, 3) := by decide +kernel
theorem dX1_callsOf_26 : decode cX1_callsOf 26 = .ok (.aload_n 1, 1) := by decide +kernel
theorem dX1_callsOf_27 : decode cX1_callsOf 27 = .ok (.getfield 140, 3) := by decide +kernel
theorem dX1_callsOf_30 : decode cX1_callsOf 30 = .ok (.aload_n 0, 1) := by decide +kernel
theorem dX1_callsOf_31 : decode cX1_callsOf 31 = .ok (.getfield 35, 3) := by decide +kernel
theorem dX1_callsOf_34 : decode cX1_callsOf 34 = .ok (.iload_n 3, 1) := by decide +kernel
theorem dX1_callsOf_35 : decode cX1_callsOf 35 = .ok (.aaload, 1) := by decide +kernel
theorem dX1_callsOf_36 : decode cX1_callsOf 36 = .ok (.getfield 311, 3) := by decide +kernel
theorem dX1_callsOf_39 : decode cX1_callsOf 39 = .ok (.isub, 1) := by decide +kernel
theorem dX1_callsOf_40 : decode cX1_callsOf 40 = .ok (.aload_n 0, 1) := by decide +kernel
theorem dX1_callsOf_41 : decode cX1_callsOf 41 = .ok (.getfield 74, 3) := by decide +kernel
theorem dX1_callsOf_44 : decode cX1_callsOf 44 = .ok (.if_icmp .le 7, 3) := by decide +kernel
theorem dX1_callsOf_47 : decode cX1_callsOf 47 = .ok (.iconst 1, 1) := by decide +kernel
theorem dX1_callsOf_48 : decode cX1_callsOf 48 = .ok (.goto 4, 3) := by decide +kernel
theorem dX1_callsOf_51 : decode cX1_callsOf 51 = .ok (.iconst 0, 1) := by decide +kernel
theorem dX1_callsOf_52 : decode cX1_callsOf 52 = .ok (.iadd, 1) := by decide +kernel
theorem dX1_callsOf_53 : decode cX1_callsOf 53 = .ok (.istore_n 2, 1) := by decide +kernel
theorem dX1_callsOf_54 : decode cX1_callsOf 54 = .ok (.iinc 3 1, 3) := by decide +kernel
theorem dX1_callsOf_57 : decode cX1_callsOf 57 = .ok (.goto (-53), 3) := by decide +kernel
theorem dX1_callsOf_60 : decode cX1_callsOf 60 = .ok (.iload_n 2, 1) := by decide +kernel
theorem dX1_callsOf_61 : decode cX1_callsOf 61 = .ok (.iconst 3, 1) := by decide +kernel
theorem dX1_callsOf_62 : decode cX1_callsOf 62 = .ok (.idiv, 1) := by decide +kernel
theorem dX1_callsOf_63 : decode cX1_callsOf 63 = .ok (.ireturn, 1) := by decide +kernel
theorem dX1_work_0 : decode cX1_work 0 = .ok (.iload 4, 2) := by decide +kernel
theorem dX1_work_2 : decode cX1_work 2 = .ok (.istore 5, 2) := by decide +kernel
theorem dX1_work_4 : decode cX1_work 4 = .ok (.aload_n 0, 1) := by decide +kernel
theorem dX1_work_5 : decode cX1_work 5 = .ok (.aload_n 1, 1) := by decide +kernel
theorem dX1_work_6 : decode cX1_work 6 = .ok (.iload_n 2, 1) := by decide +kernel
theorem dX1_work_7 : decode cX1_work 7 = .ok (.iload_n 3, 1) := by decide +kernel
theorem dX1_work_8 : decode cX1_work 8 = .ok (.invokevirtual 370, 3) := by decide +kernel
theorem dX1_work_11 : decode cX1_work 11 = .ok (.istore 6, 2) := by decide +kernel
theorem dX1_work_13 : decode cX1_work 13 = .ok (.aload_n 1, 1) := by decide +kernel
theorem dX1_work_14 : decode cX1_work 14 = .ok (.getfield 140, 3) := by decide +kernel
theorem dX1_work_17 : decode cX1_work 17 = .ok (.aload_n 0, 1) := by decide +kernel
theorem dX1_work_18 : decode cX1_work 18 = .ok (.getfield 90, 3) := by decide +kernel
theorem dX1_work_21 : decode cX1_work 21 = .ok (.aload_n 0, 1) := by decide +kernel
theorem dX1_work_22 : decode cX1_work 22 = .ok (.getfield 93, 3) := by decide +kernel
theorem dX1_work_25 : decode cX1_work 25 = .ok (.invokestatic 114, 3) := by decide +kernel
theorem dX1_work_28 : decode cX1_work 28 = .ok (.ifCond .ne 7, 3) := by decide +kernel
theorem dX1_work_31 : decode cX1_work 31 = .ok (.iconst 1, 1) := by decide +kernel
theorem dX1_work_32 : decode cX1_work 32 = .ok (.goto 4, 3) := by decide +kernel
theorem dX1_work_35 : decode cX1_work 35 = .ok (.iconst 0, 1) := by decide +kernel
theorem dX1_work_36 : decode cX1_work 36 = .ok (.istore 7, 2) := by decide +kernel
theorem dX1_work_38 : decode cX1_work 38 = .ok (.iconst 0, 1) := by decide +kernel
theorem dX1_work_39 : decode cX1_work 39 = .ok (.istore 8, 2) := by decide +kernel
theorem dX1_work_41 : decode cX1_work 41 = .ok (.iload 8, 2) := by decide +kernel
theorem dX1_work_43 : decode cX1_work 43 = .ok (.iload 6, 2) := by decide +kernel
theorem dX1_work_45 : decode cX1_work 45 = .ok (.if_icmp .ge 80, 3) := by decide +kernel
theorem dX1_work_48 : decode cX1_work 48 = .ok (.aload_n 0, 1) := by decide +kernel
theorem dX1_work_49 : decode cX1_work 49 = .ok (.getfield 65, 3) := by decide +kernel
theorem dX1_work_52 : decode cX1_work 52 = .ok (.iload 8, 2) := by decide +kernel
theorem dX1_work_54 : decode cX1_work 54 = .ok (.iaload, 1) := by decide +kernel
theorem dX1_work_55 : decode cX1_work 55 = .ok (.istore 9, 2) := by decide +kernel
theorem dX1_work_57 : decode cX1_work 57 = .ok (.aload_n 0, 1) := by decide +kernel
theorem dX1_work_58 : decode cX1_work 58 = .ok (.aload_n 1, 1) := by decide +kernel
theorem dX1_work_59 : decode cX1_work 59 = .ok (.iload_n 2, 1) := by decide +kernel
theorem dX1_work_60 : decode cX1_work 60 = .ok (.iload 9, 2) := by decide +kernel
theorem dX1_work_62 : decode cX1_work 62 = .ok (.invokevirtual 394, 3) := by decide +kernel
theorem dX1_work_65 : decode cX1_work 65 = .ok (.istore 10, 2) := by decide +kernel
theorem dX1_work_67 : decode cX1_work 67 = .ok (.iload 10, 2) := by decide +kernel
theorem dX1_work_69 : decode cX1_work 69 = .ok (.iload 5, 2) := by decide +kernel
theorem dX1_work_71 : decode cX1_work 71 = .ok (.if_icmp .gt 54, 3) := by decide +kernel
theorem dX1_work_74 : decode cX1_work 74 = .ok (.iload_n 2, 1) := by decide +kernel
theorem dX1_work_75 : decode cX1_work 75 = .ok (.iconst 3, 1) := by decide +kernel
theorem dX1_work_76 : decode cX1_work 76 = .ok (.if_icmp .ne 28, 3) := by decide +kernel
theorem dX1_work_79 : decode cX1_work 79 = .ok (.iload 7, 2) := by decide +kernel
theorem dX1_work_81 : decode cX1_work 81 = .ok (.ifCond .eq 44, 3) := by decide +kernel
theorem dX1_work_84 : decode cX1_work 84 = .ok (.aload_n 1, 1) := by decide +kernel
theorem dX1_work_85 : decode cX1_work 85 = .ok (.getfield 353, 3) := by decide +kernel
theorem dX1_work_88 : decode cX1_work 88 = .ok (.ifCond .eq 37, 3) := by decide +kernel
theorem dX1_work_91 : decode cX1_work 91 = .ok (.aload_n 1, 1) := by decide +kernel
theorem dX1_work_92 : decode cX1_work 92 = .ok (.getfield 167, 3) := by decide +kernel
theorem dX1_work_95 : decode cX1_work 95 = .ok (.sipush 150, 3) := by decide +kernel
theorem dX1_work_98 : decode cX1_work 98 = .ok (.if_icmp .ne 6, 3) := by decide +kernel
theorem dX1_work_101 : decode cX1_work 101 = .ok (.goto 24, 3) := by decide +kernel
theorem dX1_work_104 : decode cX1_work 104 = .ok (.iload 5, 2) := by decide +kernel
theorem dX1_work_106 : decode cX1_work 106 = .ok (.iload 10, 2) := by decide +kernel
theorem dX1_work_108 : decode cX1_work 108 = .ok (.isub, 1) := by decide +kernel
theorem dX1_work_109 : decode cX1_work 109 = .ok (.istore 5, 2) := by decide +kernel
theorem dX1_work_111 : decode cX1_work 111 = .ok (.aload_n 0, 1) := by decide +kernel
theorem dX1_work_112 : decode cX1_work 112 = .ok (.aload_n 1, 1) := by decide +kernel
theorem dX1_work_113 : decode cX1_work 113 = .ok (.iload_n 2, 1) := by decide +kernel
theorem dX1_work_114 : decode cX1_work 114 = .ok (.iload 9, 2) := by decide +kernel
theorem dX1_work_116 : decode cX1_work 116 = .ok (.invokevirtual 397, 3) := by decide +kernel
theorem dX1_work_119 : decode cX1_work 119 = .ok (.iinc 8 1, 3) := by decide +kernel
theorem dX1_work_122 : decode cX1_work 122 = .ok (.goto (-81), 3) := by decide +kernel
theorem dX1_work_125 : decode cX1_work 125 = .ok (.iload 5, 2) := by decide +kernel
theorem dX1_work_127 : decode cX1_work 127 = .ok (.ireturn, 1) := by decide +kernel
theorem dX1_line_0 : decode cX1_line 0 = .ok (.iconst 0, 1) := by decide +kernel
theorem dX1_line_1 : decode cX1_line 1 = .ok (.istore 4, 2) := by decide +kernel
theorem dX1_line_3 : decode cX1_line 3 = .ok (.iconst 0, 1) := by decide +kernel
theorem dX1_line_4 : decode cX1_line 4 = .ok (.istore 5, 2) := by decide +kernel
theorem dX1_line_6 : decode cX1_line 6 = .ok (.iload 5, 2) := by decide +kernel
theorem dX1_line_8 : decode cX1_line 8 = .ok (.aload_n 0, 1) := by decide +kernel
theorem dX1_line_9 : decode cX1_line 9 = .ok (.getfield 122, 3) := by decide +kernel
theorem dX1_line_12 : decode cX1_line 12 = .ok (.if_icmp .ge 92, 3) := by decide +kernel
theorem dX1_line_15 : decode cX1_line 15 = .ok (.aload_n 1, 1) := by decide +kernel
theorem dX1_line_16 : decode cX1_line 16 = .ok (.getfield 232, 3) := by decide +kernel
theorem dX1_line_19 : decode cX1_line 19 = .ok (.iload 5, 2) := by decide +kernel
theorem dX1_line_21 : decode cX1_line 21 = .ok (.aaload, 1) := by decide +kernel
theorem dX1_line_22 : decode cX1_line 22 = .ok (.getfield 236, 3) := by decide +kernel
theorem dX1_line_25 : decode cX1_line 25 = .ok (.invokestatic 363, 3) := by decide +kernel
theorem dX1_line_28 : decode cX1_line 28 = .ok (.iload_n 2, 1) := by decide +kernel
theorem dX1_line_29 : decode cX1_line 29 = .ok (.if_icmp .eq 6, 3) := by decide +kernel
theorem dX1_line_32 : decode cX1_line 32 = .ok (.goto 66, 3) := by decide +kernel
theorem dX1_line_35 : decode cX1_line 35 = .ok (.iload 4, 2) := by decide +kernel
theorem dX1_line_37 : decode cX1_line 37 = .ok (.istore 6, 2) := by decide +kernel
theorem dX1_line_39 : decode cX1_line 39 = .ok (.iload 6, 2) := by decide +kernel
theorem dX1_line_41 : decode cX1_line 41 = .ok (.ifCond .le 45, 3) := by decide +kernel
theorem dX1_line_44 : decode cX1_line 44 = .ok (.aload_n 0, 1) := by decide +kernel
theorem dX1_line_45 : decode cX1_line 45 = .ok (.aload_n 1, 1) := by decide +kernel
theorem dX1_line_46 : decode cX1_line 46 = .ok (.iload 5, 2) := by decide +kernel
theorem dX1_line_48 : decode cX1_line 48 = .ok (.aload_n 0, 1) := by decide +kernel
theorem dX1_line_49 : decode cX1_line 49 = .ok (.getfield 65, 3) := by decide +kernel
theorem dX1_line_52 : decode cX1_line 52 = .ok (.iload 6, 2) := by decide +kernel
theorem dX1_line_54 : decode cX1_line 54 = .ok (.iconst 1, 1) := by decide +kernel
theorem dX1_line_55 : decode cX1_line 55 = .ok (.isub, 1) := by decide +kernel
theorem dX1_line_56 : decode cX1_line 56 = .ok (.iaload, 1) := by decide +kernel
theorem dX1_line_57 : decode cX1_line 57 = .ok (.iload_n 3, 1) := by decide +kernel
theorem dX1_line_58 : decode cX1_line 58 = .ok (.invokevirtual 366, 3) := by decide +kernel
theorem dX1_line_61 : decode cX1_line 61 = .ok (.ifCond .eq 25, 3) := by decide +kernel
theorem dX1_line_64 : decode cX1_line 64 = .ok (.aload_n 0, 1) := by decide +kernel
theorem dX1_line_65 : decode cX1_line 65 = .ok (.getfield 65, 3) := by decide +kernel
theorem dX1_line_68 : decode cX1_line 68 = .ok (.iload 6, 2) := by decide +kernel
theorem dX1_line_70 : decode cX1_line 70 = .ok (.aload_n 0, 1) := by decide +kernel
theorem dX1_line_71 : decode cX1_line 71 = .ok (.getfield 65, 3) := by decide +kernel
theorem dX1_line_74 : decode cX1_line 74 = .ok (.iload 6, 2) := by decide +kernel
theorem dX1_line_76 : decode cX1_line 76 = .ok (.iconst 1, 1) := by decide +kernel
theorem dX1_line_77 : decode cX1_line 77 = .ok (.isub, 1) := by decide +kernel
theorem dX1_line_78 : decode cX1_line 78 = .ok (.iaload, 1) := by decide +kernel
theorem dX1_line_79 : decode cX1_line 79 = .ok (.iastore, 1) := by decide +kernel
theorem dX1_line_80 : decode cX1_line 80 = .ok (.iinc 6 (-1), 3) := by decide +kernel
theorem dX1_line_83 : decode cX1_line 83 = .ok (.goto (-44), 3) := by decide +kernel
theorem dX1_line_86 : decode cX1_line 86 = .ok (.aload_n 0, 1) := by decide +kernel
theorem dX1_line_87 : decode cX1_line 87 = .ok (.getfield 65, 3) := by decide +kernel
theorem dX1_line_90 : decode cX1_line 90 = .ok (.iload 6, 2) := by decide +kernel
theorem dX1_line_92 : decode cX1_line 92 = .ok (.iload 5, 2) := by decide +kernel
theorem dX1_line_94 : decode cX1_line 94 = .ok (.iastore, 1) := by decide +kernel
theorem dX1_line_95 : decode cX1_line 95 = .ok (.iinc 4 1, 3) := by decide +kernel
theorem dX1_line_98 : decode cX1_line 98 = .ok (.iinc 5 1, 3) := by decide +kernel
theorem dX1_line_101 : decode cX1_line 101 = .ok (.goto (-95), 3) := by decide +kernel
theorem dX1_line_104 : decode cX1_line 104 = .ok (.iload 4, 2) := by decide +kernel
theorem dX1_line_106 : decode cX1_line 106 = .ok (.ireturn, 1) := by decide +kernel
theorem dX1_deskOf_0 : decode cX1_deskOf 0 = .ok (.iload_n 0, 1) := by decide +kernel
theorem dX1_deskOf_1 : decode cX1_deskOf 1 = .ok (.ifCond .ne 7, 3) := by decide +kernel
theorem dX1_deskOf_4 : decode cX1_deskOf 4 = .ok (.iconst 0, 1) := by decide +kernel
theorem dX1_deskOf_5 : decode cX1_deskOf 5 = .ok (.goto 31, 3) := by decide +kernel
theorem dX1_deskOf_8 : decode cX1_deskOf 8 = .ok (.iload_n 0, 1) := by decide +kernel
theorem dX1_deskOf_9 : decode cX1_deskOf 9 = .ok (.iconst 2, 1) := by decide +kernel
theorem dX1_deskOf_10 : decode cX1_deskOf 10 = .ok (.if_icmp .ne 7, 3) := by decide +kernel
theorem dX1_deskOf_13 : decode cX1_deskOf 13 = .ok (.iconst 1, 1) := by decide +kernel
theorem dX1_deskOf_14 : decode cX1_deskOf 14 = .ok (.goto 22, 3) := by decide +kernel
theorem dX1_deskOf_17 : decode cX1_deskOf 17 = .ok (.iload_n 0, 1) := by decide +kernel
theorem dX1_deskOf_18 : decode cX1_deskOf 18 = .ok (.iconst 4, 1) := by decide +kernel
theorem dX1_deskOf_19 : decode cX1_deskOf 19 = .ok (.if_icmp .ne 7, 3) := by decide +kernel
theorem dX1_deskOf_22 : decode cX1_deskOf 22 = .ok (.iconst 2, 1) := by decide +kernel
theorem dX1_deskOf_23 : decode cX1_deskOf 23 = .ok (.goto 13, 3) := by decide +kernel
theorem dX1_deskOf_26 : decode cX1_deskOf 26 = .ok (.iload_n 0, 1) := by decide +kernel
theorem dX1_deskOf_27 : decode cX1_deskOf 27 = .ok (.iconst 5, 1) := by decide +kernel
theorem dX1_deskOf_28 : decode cX1_deskOf 28 = .ok (.if_icmp .ne 7, 3) := by decide +kernel
theorem dX1_deskOf_31 : decode cX1_deskOf 31 = .ok (.iconst 3, 1) := by decide +kernel
theorem dX1_deskOf_32 : decode cX1_deskOf 32 = .ok (.goto 4, 3) := by decide +kernel
theorem dX1_deskOf_35 : decode cX1_deskOf 35 = .ok (.iconst (-1), 1) := by decide +kernel
theorem dX1_deskOf_36 : decode cX1_deskOf 36 = .ok (.ireturn, 1) := by decide +kernel
theorem dX1_isAhead_0 : decode cX1_isAhead 0 = .ok (.aload_n 0, 1) := by decide +kernel
theorem dX1_isAhead_1 : decode cX1_isAhead 1 = .ok (.getfield 35, 3) := by decide +kernel
theorem dX1_isAhead_4 : decode cX1_isAhead 4 = .ok (.iload_n 2, 1) := by decide +kernel
theorem dX1_isAhead_5 : decode cX1_isAhead 5 = .ok (.aaload, 1) := by decide +kernel
theorem dX1_isAhead_6 : decode cX1_isAhead 6 = .ok (.astore 5, 2) := by decide +kernel
theorem dX1_isAhead_8 : decode cX1_isAhead 8 = .ok (.aload_n 0, 1) := by decide +kernel
theorem dX1_isAhead_9 : decode cX1_isAhead 9 = .ok (.getfield 35, 3) := by decide +kernel
theorem dX1_isAhead_12 : decode cX1_isAhead 12 = .ok (.iload_n 3, 1) := by decide +kernel
theorem dX1_isAhead_13 : decode cX1_isAhead 13 = .ok (.aaload, 1) := by decide +kernel
theorem dX1_isAhead_14 : decode cX1_isAhead 14 = .ok (.astore 6, 2) := by decide +kernel
theorem dX1_isAhead_16 : decode cX1_isAhead 16 = .ok (.aload 5, 2) := by decide +kernel
theorem dX1_isAhead_18 : decode cX1_isAhead 18 = .ok (.getfield 356, 3) := by decide +kernel
theorem dX1_isAhead_21 : decode cX1_isAhead 21 = .ok (.aload 6, 2) := by decide +kernel
theorem dX1_isAhead_23 : decode cX1_isAhead 23 = .ok (.getfield 356, 3) := by decide +kernel
theorem dX1_isAhead_26 : decode cX1_isAhead 26 = .ok (.if_icmp .eq 9, 3) := by decide +kernel
theorem dX1_isAhead_29 : decode cX1_isAhead 29 = .ok (.aload 5, 2) := by decide +kernel
theorem dX1_isAhead_31 : decode cX1_isAhead 31 = .ok (.getfield 356, 3) := by decide +kernel
theorem dX1_isAhead_34 : decode cX1_isAhead 34 = .ok (.ireturn, 1) := by decide +kernel
theorem dX1_isAhead_35 : decode cX1_isAhead 35 = .ok (.aload_n 1, 1) := by decide +kernel
theorem dX1_isAhead_36 : decode cX1_isAhead 36 = .ok (.getfield 232, 3) := by decide +kernel
theorem dX1_isAhead_39 : decode cX1_isAhead 39 = .ok (.iload_n 2, 1) := by decide +kernel
theorem dX1_isAhead_40 : decode cX1_isAhead 40 = .ok (.aaload, 1) := by decide +kernel
theorem dX1_isAhead_41 : decode cX1_isAhead 41 = .ok (.invokestatic 359, 3) := by decide +kernel
theorem dX1_isAhead_44 : decode cX1_isAhead 44 = .ok (.istore 7, 2) := by decide +kernel
theorem dX1_isAhead_46 : decode cX1_isAhead 46 = .ok (.iload 4, 2) := by decide +kernel
theorem dX1_isAhead_48 : decode cX1_isAhead 48 = .ok (.iconst 2, 1) := by decide +kernel
theorem dX1_isAhead_49 : decode cX1_isAhead 49 = .ok (.if_icmp .ne 20, 3) := by decide +kernel
theorem dX1_isAhead_52 : decode cX1_isAhead 52 = .ok (.iload 7, 2) := by decide +kernel
theorem dX1_isAhead_54 : decode cX1_isAhead 54 = .ok (.aload_n 1, 1) := by decide +kernel
theorem dX1_isAhead_55 : decode cX1_isAhead 55 = .ok (.getfield 232, 3) := by decide +kernel
theorem dX1_isAhead_58 : decode cX1_isAhead 58 = .ok (.iload_n 3, 1) := by decide +kernel
theorem dX1_isAhead_59 : decode cX1_isAhead 59 = .ok (.aaload, 1) := by decide +kernel
theorem dX1_isAhead_60 : decode cX1_isAhead 60 = .ok (.invokestatic 359, 3) := by decide +kernel
theorem dX1_isAhead_63 : decode cX1_isAhead 63 = .ok (.if_icmp .eq 6, 3) := by decide +kernel
theorem dX1_isAhead_66 : decode cX1_isAhead 66 = .ok (.iload 7, 2) := by decide +kernel
theorem dX1_isAhead_68 : decode cX1_isAhead 68 = .ok (.ireturn, 1) := by decide +kernel
theorem dX1_isAhead_69 : decode cX1_isAhead 69 = .ok (.iload 4, 2) := by decide +kernel
theorem dX1_isAhead_71 : decode cX1_isAhead 71 = .ok (.ifCond .ne 11, 3) := by decide +kernel
theorem dX1_isAhead_74 : decode cX1_isAhead 74 = .ok (.aload 5, 2) := by decide +kernel
theorem dX1_isAhead_76 : decode cX1_isAhead 76 = .ok (.getfield 311, 3) := by decide +kernel
theorem dX1_isAhead_79 : decode cX1_isAhead 79 = .ok (.goto 8, 3) := by decide +kernel
theorem dX1_isAhead_82 : decode cX1_isAhead 82 = .ok (.aload 5, 2) := by decide +kernel
theorem dX1_isAhead_84 : decode cX1_isAhead 84 = .ok (.getfield 314, 3) := by decide +kernel
theorem dX1_isAhead_87 : decode cX1_isAhead 87 = .ok (.istore 8, 2) := by decide +kernel
theorem dX1_isAhead_89 : decode cX1_isAhead 89 = .ok (.iload 4, 2) := by decide +kernel
theorem dX1_isAhead_91 : decode cX1_isAhead 91 = .ok (.ifCond .ne 11, 3) := by decide +kernel
theorem dX1_isAhead_94 : decode cX1_isAhead 94 = .ok (.aload 6, 2) := by decide +kernel
theorem dX1_isAhead_96 : decode cX1_isAhead 96 = .ok (.getfield 311, 3) := by decide +kernel
theorem dX1_isAhead_99 : decode cX1_isAhead 99 = .ok (.goto 8, 3) := by decide +kernel
theorem dX1_isAhead_102 : decode cX1_isAhead 102 = .ok (.aload 6, 2) := by decide +kernel
theorem dX1_isAhead_104 : decode cX1_isAhead 104 = .ok (.getfield 314, 3) := by decide +kernel
theorem dX1_isAhead_107 : decode cX1_isAhead 107 = .ok (.istore 9, 2) := by decide +kernel
theorem dX1_isAhead_109 : decode cX1_isAhead 109 = .ok (.iload 8, 2) := by decide +kernel
theorem dX1_isAhead_111 : decode cX1_isAhead 111 = .ok (.iload 9, 2) := by decide +kernel
theorem dX1_isAhead_113 : decode cX1_isAhead 113 = .ok (.if_icmp .lt 15, 3) := by decide +kernel
theorem dX1_isAhead_116 : decode cX1_isAhead 116 = .ok (.iload 8, 2) := by decide +kernel
theorem dX1_isAhead_118 : decode cX1_isAhead 118 = .ok (.iload 9, 2) := by decide +kernel
theorem dX1_isAhead_120 : decode cX1_isAhead 120 = .ok (.if_icmp .ne 12, 3) := by decide +kernel
theorem dX1_isAhead_123 : decode cX1_isAhead 123 = .ok (.iload_n 2, 1) := by decide +kernel
theorem dX1_isAhead_124 : decode cX1_isAhead 124 = .ok (.iload_n 3, 1) := by decide +kernel
theorem dX1_isAhead_125 : decode cX1_isAhead 125 = .ok (.if_icmp .ge 7, 3) := by decide +kernel
theorem dX1_isAhead_128 : decode cX1_isAhead 128 = .ok (.iconst 1, 1) := by decide +kernel
theorem dX1_isAhead_129 : decode cX1_isAhead 129 = .ok (.goto 4, 3) := by decide +kernel
theorem dX1_isAhead_132 : decode cX1_isAhead 132 = .ok (.iconst 0, 1) := by decide +kernel
theorem dX1_isAhead_133 : decode cX1_isAhead 133 = .ok (.ireturn, 1) := by decide +kernel
theorem dX1_hasTicket_0 : decode cX1_hasTicket 0 = .ok (.aload_n 0, 1) := by decide +kernel
theorem dX1_hasTicket_1 : decode cX1_hasTicket 1 = .ok (.getfield 274, 3) := by decide +kernel
theorem dX1_hasTicket_4 : decode cX1_hasTicket 4 = .ok (.bipush 6, 2) := by decide +kernel
theorem dX1_hasTicket_6 : decode cX1_hasTicket 6 = .ok (.ishr, 1) := by decide +kernel
theorem dX1_hasTicket_7 : decode cX1_hasTicket 7 = .ok (.iconst 1, 1) := by decide +kernel
theorem dX1_hasTicket_8 : decode cX1_hasTicket 8 = .ok (.iand, 1) := by decide +kernel
theorem dX1_hasTicket_9 : decode cX1_hasTicket 9 = .ok (.iconst 1, 1) := by decide +kernel
theorem dX1_hasTicket_10 : decode cX1_hasTicket 10 = .ok (.if_icmp .ne 7, 3) := by decide +kernel
theorem dX1_hasTicket_13 : decode cX1_hasTicket 13 = .ok (.iconst 1, 1) := by decide +kernel
theorem dX1_hasTicket_14 : decode cX1_hasTicket 14 = .ok (.goto 4, 3) := by decide +kernel
theorem dX1_hasTicket_17 : decode cX1_hasTicket 17 = .ok (.iconst 0, 1) := by decide +kernel
theorem dX1_hasTicket_18 : decode cX1_hasTicket 18 = .ok (.ireturn, 1) := by decide +kernel
theorem dX1_costs_0 : decode cX1_costs 0 = .ok (.iload_n 2, 1) := by decide +kernel
theorem dX1_costs_1 : decode cX1_costs 1 = .ok (.tableswitch 64 0 2 #[27, 46, 61], 27) := by decide +kernel
theorem dX1_costs_28 : decode cX1_costs 28 = .ok (.aload_n 1, 1) := by decide +kernel
theorem dX1_costs_29 : decode cX1_costs 29 = .ok (.getfield 232, 3) := by decide +kernel
theorem dX1_costs_32 : decode cX1_costs 32 = .ok (.iload_n 3, 1) := by decide +kernel
theorem dX1_costs_33 : decode cX1_costs 33 = .ok (.aaload, 1) := by decide +kernel
theorem dX1_costs_34 : decode cX1_costs 34 = .ok (.getfield 320, 3) := by decide +kernel
theorem dX1_costs_37 : decode cX1_costs 37 = .ok (.iconst (-1), 1) := by decide +kernel
theorem dX1_costs_38 : decode cX1_costs 38 = .ok (.if_icmp .ne 7, 3) := by decide +kernel
theorem dX1_costs_41 : decode cX1_costs 41 = .ok (.iconst 2, 1) := by decide +kernel
theorem dX1_costs_42 : decode cX1_costs 42 = .ok (.goto 4, 3) := by decide +kernel
theorem dX1_costs_45 : decode cX1_costs 45 = .ok (.iconst 1, 1) := by decide +kernel
theorem dX1_costs_46 : decode cX1_costs 46 = .ok (.ireturn, 1) := by decide +kernel
theorem dX1_costs_47 : decode cX1_costs 47 = .ok (.iconst 3, 1) := by decide +kernel
theorem dX1_costs_48 : decode cX1_costs 48 = .ok (.aload_n 0, 1) := by decide +kernel
theorem dX1_costs_49 : decode cX1_costs 49 = .ok (.getfield 35, 3) := by decide +kernel
theorem dX1_costs_52 : decode cX1_costs 52 = .ok (.iload_n 3, 1) := by decide +kernel
theorem dX1_costs_53 : decode cX1_costs 53 = .ok (.aaload, 1) := by decide +kernel
theorem dX1_costs_54 : decode cX1_costs 54 = .ok (.getfield 222, 3) := by decide +kernel
theorem dX1_costs_57 : decode cX1_costs 57 = .ok (.getfield 229, 3) := by decide +kernel
theorem dX1_costs_60 : decode cX1_costs 60 = .ok (.iadd, 1) := by decide +kernel
theorem dX1_costs_61 : decode cX1_costs 61 = .ok (.ireturn, 1) := by decide +kernel
theorem dX1_costs_62 : decode cX1_costs 62 = .ok (.bipush 6, 2) := by decide +kernel
theorem dX1_costs_64 : decode cX1_costs 64 = .ok (.ireturn, 1) := by decide +kernel
theorem dX1_costs_65 : decode cX1_costs 65 = .ok (.iconst 1, 1) := by decide +kernel
theorem dX1_costs_66 : decode cX1_costs 66 = .ok (.ireturn, 1) := by decide +kernel
theorem dX1_does_0 : decode cX1_does 0 = .ok (.aload_n 1, 1) := by decide +kernel
theorem dX1_does_1 : decode cX1_does 1 = .ok (.getfield 232, 3) := by decide +kernel
theorem dX1_does_4 : decode cX1_does 4 = .ok (.iload_n 3, 1) := by decide +kernel
theorem dX1_does_5 : decode cX1_does 5 = .ok (.aaload, 1) := by decide +kernel
theorem dX1_does_6 : decode cX1_does 6 = .ok (.astore 4, 2) := by decide +kernel
theorem dX1_does_8 : decode cX1_does 8 = .ok (.iload_n 2, 1) := by decide +kernel
theorem dX1_does_9 : decode cX1_does 9 = .ok (.tableswitch 122 0 2 #[27, 95, 113], 27) := by decide +kernel
theorem dX1_does_36 : decode cX1_does 36 = .ok (.aload 4, 2) := by decide +kernel
theorem dX1_does_38 : decode cX1_does 38 = .ok (.aload_n 1, 1) := by decide +kernel
theorem dX1_does_39 : decode cX1_does 39 = .ok (.getfield 140, 3) := by decide +kernel
theorem dX1_does_42 : decode cX1_does 42 = .ok (.putfield 320, 3) := by decide +kernel
theorem dX1_does_45 : decode cX1_does 45 = .ok (.aload_n 0, 1) := by decide +kernel
theorem dX1_does_46 : decode cX1_does 46 = .ok (.getfield 35, 3) := by decide +kernel
theorem dX1_does_49 : decode cX1_does 49 = .ok (.iload_n 3, 1) := by decide +kernel
theorem dX1_does_50 : decode cX1_does 50 = .ok (.aaload, 1) := by decide +kernel
theorem dX1_does_51 : decode cX1_does 51 = .ok (.aload 4, 2) := by decide +kernel
theorem dX1_does_53 : decode cX1_does 53 = .ok (.invokestatic 290, 3) := by decide +kernel
theorem dX1_does_56 : decode cX1_does 56 = .ok (.ifCond .ne 7, 3) := by decide +kernel
theorem dX1_does_59 : decode cX1_does 59 = .ok (.iconst 1, 1) := by decide +kernel
theorem dX1_does_60 : decode cX1_does 60 = .ok (.goto 4, 3) := by decide +kernel
theorem dX1_does_63 : decode cX1_does 63 = .ok (.iconst 0, 1) := by decide +kernel
theorem dX1_does_64 : decode cX1_does 64 = .ok (.istore 5, 2) := by decide +kernel
theorem dX1_does_66 : decode cX1_does 66 = .ok (.aload 4, 2) := by decide +kernel
theorem dX1_does_68 : decode cX1_does 68 = .ok (.iload 5, 2) := by decide +kernel
theorem dX1_does_70 : decode cX1_does 70 = .ok (.ifCond .eq 7, 3) := by decide +kernel
theorem dX1_does_73 : decode cX1_does 73 = .ok (.iconst 2, 1) := by decide +kernel
theorem dX1_does_74 : decode cX1_does 74 = .ok (.goto 4, 3) := by decide +kernel
theorem dX1_does_77 : decode cX1_does 77 = .ok (.iconst 1, 1) := by decide +kernel
theorem dX1_does_78 : decode cX1_does 78 = .ok (.putfield 236, 3) := by decide +kernel
theorem dX1_does_81 : decode cX1_does 81 = .ok (.aload 4, 2) := by decide +kernel
theorem dX1_does_83 : decode cX1_does 83 = .ok (.dup, 1) := by decide +kernel
theorem dX1_does_84 : decode cX1_does 84 = .ok (.getfield 326, 3) := by decide +kernel
theorem dX1_does_87 : decode cX1_does 87 = .ok (.iload 5, 2) := by decide +kernel
theorem dX1_does_89 : decode cX1_does 89 = .ok (.ifCond .eq 7, 3) := by decide +kernel
theorem dX1_does_92 : decode cX1_does 92 = .ok (.iconst 0, 1) := by decide +kernel
theorem dX1_does_93 : decode cX1_does 93 = .ok (.goto 4, 3) := by decide +kernel
theorem dX1_does_96 : decode cX1_does 96 = .ok (.iconst 1, 1) := by decide +kernel
theorem dX1_does_97 : decode cX1_does 97 = .ok (.iadd, 1) := by decide +kernel
theorem dX1_does_98 : decode cX1_does 98 = .ok (.putfield 326, 3) := by decide +kernel
theorem dX1_does_101 : decode cX1_does 101 = .ok (.goto 36, 3) := by decide +kernel
theorem dX1_does_104 : decode cX1_does 104 = .ok (.aload 4, 2) := by decide +kernel
theorem dX1_does_106 : decode cX1_does 106 = .ok (.aload_n 0, 1) := by decide +kernel
theorem dX1_does_107 : decode cX1_does 107 = .ok (.aload_n 0, 1) := by decide +kernel
theorem dX1_does_108 : decode cX1_does 108 = .ok (.getfield 35, 3) := by decide +kernel
theorem dX1_does_111 : decode cX1_does 111 = .ok (.iload_n 3, 1) := by decide +kernel
theorem dX1_does_112 : decode cX1_does 112 = .ok (.aaload, 1) := by decide +kernel
theorem dX1_does_113 : decode cX1_does 113 = .ok (.invokevirtual 241, 3) := by decide +kernel
theorem dX1_does_116 : decode cX1_does 116 = .ok (.putfield 236, 3) := by decide +kernel
theorem dX1_does_119 : decode cX1_does 119 = .ok (.goto 18, 3) := by decide +kernel
theorem dX1_does_122 : decode cX1_does 122 = .ok (.aload 4, 2) := by decide +kernel
theorem dX1_does_124 : decode cX1_does 124 = .ok (.iconst 5, 1) := by decide +kernel
theorem dX1_does_125 : decode cX1_does 125 = .ok (.putfield 236, 3) := by decide +kernel
theorem dX1_does_128 : decode cX1_does 128 = .ok (.goto 9, 3) := by decide +kernel
theorem dX1_does_131 : decode cX1_does 131 = .ok (.aload_n 0, 1) := by decide +kernel
theorem dX1_does_132 : decode cX1_does 132 = .ok (.aload_n 1, 1) := by decide +kernel
theorem dX1_does_133 : decode cX1_does 133 = .ok (.iload_n 3, 1) := by decide +kernel
theorem dX1_does_134 : decode cX1_does 134 = .ok (.invokevirtual 401, 3) := by decide +kernel
theorem dX1_does_137 : decode cX1_does 137 = .ok (.return_, 1) := by decide +kernel
theorem dX1_print_0 : decode cX1_print 0 = .ok (.aload_n 0, 1) := by decide +kernel
theorem dX1_print_1 : decode cX1_print 1 = .ok (.getfield 35, 3) := by decide +kernel
theorem dX1_print_4 : decode cX1_print 4 = .ok (.iload_n 2, 1) := by decide +kernel
theorem dX1_print_5 : decode cX1_print 5 = .ok (.aaload, 1) := by decide +kernel
theorem dX1_print_6 : decode cX1_print 6 = .ok (.astore_n 3, 1) := by decide +kernel
theorem dX1_print_7 : decode cX1_print 7 = .ok (.aload_n 1, 1) := by decide +kernel
theorem dX1_print_8 : decode cX1_print 8 = .ok (.getfield 232, 3) := by decide +kernel
theorem dX1_print_11 : decode cX1_print 11 = .ok (.iload_n 2, 1) := by decide +kernel
theorem dX1_print_12 : decode cX1_print 12 = .ok (.aaload, 1) := by decide +kernel
theorem dX1_print_13 : decode cX1_print 13 = .ok (.astore 4, 2) := by decide +kernel
theorem dX1_print_15 : decode cX1_print 15 = .ok (.aload_n 1, 1) := by decide +kernel
theorem dX1_print_16 : decode cX1_print 16 = .ok (.dup, 1) := by decide +kernel
theorem dX1_print_17 : decode cX1_print 17 = .ok (.getfield 353, 3) := by decide +kernel
theorem dX1_print_20 : decode cX1_print 20 = .ok (.iconst 1, 1) := by decide +kernel
theorem dX1_print_21 : decode cX1_print 21 = .ok (.isub, 1) := by decide +kernel
theorem dX1_print_22 : decode cX1_print 22 = .ok (.putfield 353, 3) := by decide +kernel
theorem dX1_print_25 : decode cX1_print 25 = .ok (.aload_n 1, 1) := by decide +kernel
theorem dX1_print_26 : decode cX1_print 26 = .ok (.aload_n 0, 1) := by decide +kernel
theorem dX1_print_27 : decode cX1_print 27 = .ok (.getfield 42, 3) := by decide +kernel
theorem dX1_print_30 : decode cX1_print 30 = .ok (.if_acmp .ne 118, 3) := by decide +kernel
theorem dX1_print_33 : decode cX1_print 33 = .ok (.iconst 0, 1) := by decide +kernel
theorem dX1_print_34 : decode cX1_print 34 = .ok (.istore 5, 2) := by decide +kernel
theorem dX1_print_36 : decode cX1_print 36 = .ok (.iload 5, 2) := by decide +kernel
theorem dX1_print_38 : decode cX1_print 38 = .ok (.aload_n 1, 1) := by decide +kernel
theorem dX1_print_39 : decode cX1_print 39 = .ok (.getfield 167, 3) := by decide +kernel
theorem dX1_print_42 : decode cX1_print 42 = .ok (.if_icmp .ge 65, 3) := by decide +kernel
theorem dX1_print_45 : decode cX1_print 45 = .ok (.aload_n 3, 1) := by decide +kernel
theorem dX1_print_46 : decode cX1_print 46 = .ok (.getfield 308, 3) := by decide +kernel
theorem dX1_print_49 : decode cX1_print 49 = .ok (.iconst 3, 1) := by decide +kernel
theorem dX1_print_50 : decode cX1_print 50 = .ok (.if_icmp .eq 57, 3) := by decide +kernel
theorem dX1_print_53 : decode cX1_print 53 = .ok (.aload_n 0, 1) := by decide +kernel
theorem dX1_print_54 : decode cX1_print 54 = .ok (.getfield 51, 3) := by decide +kernel
theorem dX1_print_57 : decode cX1_print 57 = .ok (.iload 5, 2) := by decide +kernel
theorem dX1_print_59 : decode cX1_print 59 = .ok (.aaload, 1) := by decide +kernel
theorem dX1_print_60 : decode cX1_print 60 = .ok (.getfield 169, 3) := by decide +kernel
theorem dX1_print_63 : decode cX1_print 63 = .ok (.aload_n 3, 1) := by decide +kernel
theorem dX1_print_64 : decode cX1_print 64 = .ok (.getfield 218, 3) := by decide +kernel
theorem dX1_print_67 : decode cX1_print 67 = .ok (.if_icmp .ne 34, 3) := by decide +kernel
theorem dX1_print_70 : decode cX1_print 70 = .ok (.aload_n 0, 1) := by decide +kernel
theorem dX1_print_71 : decode cX1_print 71 = .ok (.getfield 51, 3) := by decide +kernel
theorem dX1_print_74 : decode cX1_print 74 = .ok (.iload 5, 2) := by decide +kernel
theorem dX1_print_76 : decode cX1_print 76 = .ok (.aaload, 1) := by decide +kernel
theorem dX1_print_77 : decode cX1_print 77 = .ok (.aload_n 1, 1) := by decide +kernel
theorem dX1_print_78 : decode cX1_print 78 = .ok (.getfield 140, 3) := by decide +kernel
theorem dX1_print_81 : decode cX1_print 81 = .ok (.invokevirtual 172, 3) := by decide +kernel
theorem dX1_print_84 : decode cX1_print 84 = .ok (.ifCond .eq 17, 3) := by decide +kernel
theorem dX1_print_87 : decode cX1_print 87 = .ok (.aload_n 0, 1) := by decide +kernel
theorem dX1_print_88 : decode cX1_print 88 = .ok (.getfield 51, 3) := by decide +kernel
theorem dX1_print_91 : decode cX1_print 91 = .ok (.iload 5, 2) := by decide +kernel
theorem dX1_print_93 : decode cX1_print 93 = .ok (.aaload, 1) := by decide +kernel
theorem dX1_print_94 : decode cX1_print 94 = .ok (.aload_n 1, 1) := by decide +kernel
theorem dX1_print_95 : decode cX1_print 95 = .ok (.getfield 140, 3) := by decide +kernel
theorem dX1_print_98 : decode cX1_print 98 = .ok (.putfield 297, 3) := by decide +kernel
theorem dX1_print_101 : decode cX1_print 101 = .ok (.iinc 5 1, 3) := by decide +kernel
theorem dX1_print_104 : decode cX1_print 104 = .ok (.goto (-68), 3) := by decide +kernel
theorem dX1_print_107 : decode cX1_print 107 = .ok (.aload_n 0, 1) := by decide +kernel
theorem dX1_print_108 : decode cX1_print 108 = .ok (.getfield 51, 3) := by decide +kernel
theorem dX1_print_111 : decode cX1_print 111 = .ok (.aload_n 1, 1) := by decide +kernel
theorem dX1_print_112 : decode cX1_print 112 = .ok (.getfield 167, 3) := by decide +kernel
theorem dX1_print_115 : decode cX1_print 115 = .ok (.new 49, 3) := by decide +kernel
theorem dX1_print_118 : decode cX1_print 118 = .ok (.dup, 1) := by decide +kernel
theorem dX1_print_119 : decode cX1_print 119 = .ok (.aload_n 3, 1) := by decide +kernel
theorem dX1_print_120 : decode cX1_print 120 = .ok (.getfield 218, 3) := by decide +kernel
theorem dX1_print_123 : decode cX1_print 123 = .ok (.aload_n 1, 1) := by decide +kernel
theorem dX1_print_124 : decode cX1_print 124 = .ok (.getfield 140, 3) := by decide +kernel
theorem dX1_print_127 : decode cX1_print 127 = .ok (.aload_n 1, 1) := by decide +kernel
theorem dX1_print_128 : decode cX1_print 128 = .ok (.getfield 140, 3) := by decide +kernel
theorem dX1_print_131 : decode cX1_print 131 = .ok (.sipush 365, 3) := by decide +kernel
theorem dX1_print_134 : decode cX1_print 134 = .ok (.aload_n 3, 1) := by decide +kernel
theorem dX1_print_135 : decode cX1_print 135 = .ok (.getfield 222, 3) := by decide +kernel
theorem dX1_print_138 : decode cX1_print 138 = .ok (.getfield 258, 3) := by decide +kernel
theorem dX1_print_141 : decode cX1_print 141 = .ok (.imul, 1) := by decide +kernel
theorem dX1_print_142 : decode cX1_print 142 = .ok (.iadd, 1) := by decide +kernel
theorem dX1_print_143 : decode cX1_print 143 = .ok (.iload_n 2, 1) := by decide +kernel
theorem dX1_print_144 : decode cX1_print 144 = .ok (.invokespecial 404, 3) := by decide +kernel
theorem dX1_print_147 : decode cX1_print 147 = .ok (.aastore, 1) := by decide +kernel
theorem dX1_print_148 : decode cX1_print 148 = .ok (.aload 4, 2) := by decide +kernel
theorem dX1_print_150 : decode cX1_print 150 = .ok (.aload_n 1, 1) := by decide +kernel
theorem dX1_print_151 : decode cX1_print 151 = .ok (.getfield 167, 3) := by decide +kernel
theorem dX1_print_154 : decode cX1_print 154 = .ok (.putfield 294, 3) := by decide +kernel
theorem dX1_print_157 : decode cX1_print 157 = .ok (.aload_n 1, 1) := by decide +kernel
theorem dX1_print_158 : decode cX1_print 158 = .ok (.dup, 1) := by decide +kernel
theorem dX1_print_159 : decode cX1_print 159 = .ok (.getfield 167, 3) := by decide +kernel
theorem dX1_print_162 : decode cX1_print 162 = .ok (.iconst 1, 1) := by decide +kernel
theorem dX1_print_163 : decode cX1_print 163 = .ok (.iadd, 1) := by decide +kernel
theorem dX1_print_164 : decode cX1_print 164 = .ok (.putfield 167, 3) := by decide +kernel
theorem dX1_print_167 : decode cX1_print 167 = .ok (.aload 4, 2) := by decide +kernel
theorem dX1_print_169 : decode cX1_print 169 = .ok (.bipush 6, 2) := by decide +kernel
theorem dX1_print_171 : decode cX1_print 171 = .ok (.putfield 236, 3) := by decide +kernel
theorem dX1_print_174 : decode cX1_print 174 = .ok (.aload 4, 2) := by decide +kernel
theorem dX1_print_176 : decode cX1_print 176 = .ok (.aload_n 1, 1) := by decide +kernel
theorem dX1_print_177 : decode cX1_print 177 = .ok (.getfield 140, 3) := by decide +kernel
theorem dX1_print_180 : decode cX1_print 180 = .ok (.aload_n 0, 1) := by decide +kernel
theorem dX1_print_181 : decode cX1_print 181 = .ok (.getfield 24, 3) := by decide +kernel
theorem dX1_print_184 : decode cX1_print 184 = .ok (.aload_n 3, 1) := by decide +kernel
theorem dX1_print_185 : decode cX1_print 185 = .ok (.getfield 218, 3) := by decide +kernel
theorem dX1_print_188 : decode cX1_print 188 = .ok (.aaload, 1) := by decide +kernel
theorem dX1_print_189 : decode cX1_print 189 = .ok (.getfield 190, 3) := by decide +kernel
theorem dX1_print_192 : decode cX1_print 192 = .ok (.ifCond .eq 10, 3) := by decide +kernel
theorem dX1_print_195 : decode cX1_print 195 = .ok (.aload_n 0, 1) := by decide +kernel
theorem dX1_print_196 : decode cX1_print 196 = .ok (.getfield 87, 3) := by decide +kernel
theorem dX1_print_199 : decode cX1_print 199 = .ok (.goto 7, 3) := by decide +kernel
theorem dX1_print_202 : decode cX1_print 202 = .ok (.aload_n 0, 1) := by decide +kernel
theorem dX1_print_203 : decode cX1_print 203 = .ok (.getfield 84, 3) := by decide +kernel
theorem dX1_print_206 : decode cX1_print 206 = .ok (.iadd, 1) := by decide +kernel
theorem dX1_print_207 : decode cX1_print 207 = .ok (.putfield 305, 3) := by decide +kernel
theorem dX1_print_210 : decode cX1_print 210 = .ok (.aload 4, 2) := by decide +kernel
theorem dX1_print_212 : decode cX1_print 212 = .ok (.getfield 305, 3) := by decide +kernel
theorem dX1_print_215 : decode cX1_print 215 = .ok (.aload_n 1, 1) := by decide +kernel
theorem dX1_print_216 : decode cX1_print 216 = .ok (.getfield 140, 3) := by decide +kernel
theorem dX1_print_219 : decode cX1_print 219 = .ok (.if_icmp .ne 9, 3) := by decide +kernel
theorem dX1_print_222 : decode cX1_print 222 = .ok (.aload_n 0, 1) := by decide +kernel
theorem dX1_print_223 : decode cX1_print 223 = .ok (.aload_n 1, 1) := by decide +kernel
theorem dX1_print_224 : decode cX1_print 224 = .ok (.iload_n 2, 1) := by decide +kernel
theorem dX1_print_225 : decode cX1_print 225 = .ok (.invokevirtual 376, 3) := by decide +kernel
theorem dX1_print_228 : decode cX1_print 228 = .ok (.return_, 1) := by decide +kernel
theorem dX1_refuse_0 : decode cX1_refuse 0 = .ok (.aload_n 0, 1) := by decide +kernel
theorem dX1_refuse_1 : decode cX1_refuse 1 = .ok (.iload_n 1, 1) := by decide +kernel
theorem dX1_refuse_2 : decode cX1_refuse 2 = .ok (.invokevirtual 283, 3) := by decide +kernel
theorem dX1_refuse_5 : decode cX1_refuse 5 = .ok (.astore_n 2, 1) := by decide +kernel
theorem dX1_refuse_6 : decode cX1_refuse 6 = .ok (.aload_n 0, 1) := by decide +kernel
theorem dX1_refuse_7 : decode cX1_refuse 7 = .ok (.getfield 42, 3) := by decide +kernel
theorem dX1_refuse_10 : decode cX1_refuse 10 = .ok (.getfield 232, 3) := by decide +kernel
theorem dX1_refuse_13 : decode cX1_refuse 13 = .ok (.iload_n 1, 1) := by decide +kernel
theorem dX1_refuse_14 : decode cX1_refuse 14 = .ok (.aaload, 1) := by decide +kernel
theorem dX1_refuse_15 : decode cX1_refuse 15 = .ok (.astore_n 3, 1) := by decide +kernel
theorem dX1_refuse_16 : decode cX1_refuse 16 = .ok (.aload_n 3, 1) := by decide +kernel
theorem dX1_refuse_17 : decode cX1_refuse 17 = .ok (.getfield 236, 3) := by decide +kernel
theorem dX1_refuse_20 : decode cX1_refuse 20 = .ok (.iconst 5, 1) := by decide +kernel
theorem dX1_refuse_21 : decode cX1_refuse 21 = .ok (.if_icmp .gt 7, 3) := by decide +kernel
theorem dX1_refuse_24 : decode cX1_refuse 24 = .ok (.iconst 1, 1) := by decide +kernel
theorem dX1_refuse_25 : decode cX1_refuse 25 = .ok (.goto 4, 3) := by decide +kernel
theorem dX1_refuse_28 : decode cX1_refuse 28 = .ok (.iconst 0, 1) := by decide +kernel
theorem dX1_refuse_29 : decode cX1_refuse 29 = .ok (.invokestatic 287, 3) := by decide +kernel
theorem dX1_refuse_32 : decode cX1_refuse 32 = .ok (.aload_n 3, 1) := by decide +kernel
theorem dX1_refuse_33 : decode cX1_refuse 33 = .ok (.bipush 9, 2) := by decide +kernel
theorem dX1_refuse_35 : decode cX1_refuse 35 = .ok (.putfield 236, 3) := by decide +kernel
theorem dX1_refuse_38 : decode cX1_refuse 38 = .ok (.return_, 1) := by decide +kernel
theorem dX1_lose_0 : decode cX1_lose 0 = .ok (.aload_n 0, 1) := by decide +kernel
theorem dX1_lose_1 : decode cX1_lose 1 = .ok (.iload_n 1, 1) := by decide +kernel
theorem dX1_lose_2 : decode cX1_lose 2 = .ok (.invokevirtual 283, 3) := by decide +kernel
theorem dX1_lose_5 : decode cX1_lose 5 = .ok (.astore_n 2, 1) := by decide +kernel
theorem dX1_lose_6 : decode cX1_lose 6 = .ok (.aload_n 0, 1) := by decide +kernel
theorem dX1_lose_7 : decode cX1_lose 7 = .ok (.getfield 42, 3) := by decide +kernel
theorem dX1_lose_10 : decode cX1_lose 10 = .ok (.getfield 232, 3) := by decide +kernel
theorem dX1_lose_13 : decode cX1_lose 13 = .ok (.iload_n 1, 1) := by decide +kernel
theorem dX1_lose_14 : decode cX1_lose 14 = .ok (.aaload, 1) := by decide +kernel
theorem dX1_lose_15 : decode cX1_lose 15 = .ok (.astore_n 3, 1) := by decide +kernel
theorem dX1_lose_16 : decode cX1_lose 16 = .ok (.aload_n 3, 1) := by decide +kernel
theorem dX1_lose_17 : decode cX1_lose 17 = .ok (.getfield 236, 3) := by decide +kernel
theorem dX1_lose_20 : decode cX1_lose 20 = .ok (.bipush 6, 2) := by decide +kernel
theorem dX1_lose_22 : decode cX1_lose 22 = .ok (.if_icmp .ne 7, 3) := by decide +kernel
theorem dX1_lose_25 : decode cX1_lose 25 = .ok (.iconst 1, 1) := by decide +kernel
theorem dX1_lose_26 : decode cX1_lose 26 = .ok (.goto 4, 3) := by decide +kernel
theorem dX1_lose_29 : decode cX1_lose 29 = .ok (.iconst 0, 1) := by decide +kernel
theorem dX1_lose_30 : decode cX1_lose 30 = .ok (.invokestatic 287, 3) := by decide +kernel
theorem dX1_lose_33 : decode cX1_lose 33 = .ok (.aload_n 3, 1) := by decide +kernel
theorem dX1_lose_34 : decode cX1_lose 34 = .ok (.bipush 8, 2) := by decide +kernel
theorem dX1_lose_36 : decode cX1_lose 36 = .ok (.putfield 236, 3) := by decide +kernel
theorem dX1_lose_39 : decode cX1_lose 39 = .ok (.aload_n 0, 1) := by decide +kernel
theorem dX1_lose_40 : decode cX1_lose 40 = .ok (.getfield 51, 3) := by decide +kernel
theorem dX1_lose_43 : decode cX1_lose 43 = .ok (.aload_n 3, 1) := by decide +kernel
theorem dX1_lose_44 : decode cX1_lose 44 = .ok (.getfield 294, 3) := by decide +kernel
theorem dX1_lose_47 : decode cX1_lose 47 = .ok (.aaload, 1) := by decide +kernel
theorem dX1_lose_48 : decode cX1_lose 48 = .ok (.astore 4, 2) := by decide +kernel
theorem dX1_lose_50 : decode cX1_lose 50 = .ok (.aload 4, 2) := by decide +kernel
theorem dX1_lose_52 : decode cX1_lose 52 = .ok (.aload 4, 2) := by decide +kernel
theorem dX1_lose_54 : decode cX1_lose 54 = .ok (.getfield 297, 3) := by decide +kernel
theorem dX1_lose_57 : decode cX1_lose 57 = .ok (.aload_n 0, 1) := by decide +kernel
theorem dX1_lose_58 : decode cX1_lose 58 = .ok (.getfield 42, 3) := by decide +kernel
theorem dX1_lose_61 : decode cX1_lose 61 = .ok (.getfield 140, 3) := by decide +kernel
theorem dX1_lose_64 : decode cX1_lose 64 = .ok (.invokestatic 300, 3) := by decide +kernel
theorem dX1_lose_67 : decode cX1_lose 67 = .ok (.putfield 297, 3) := by decide +kernel
theorem dX1_lose_70 : decode cX1_lose 70 = .ok (.return_, 1) := by decide +kernel
theorem dX1_again_0 : decode cX1_again 0 = .ok (.aload_n 0, 1) := by decide +kernel
theorem dX1_again_1 : decode cX1_again 1 = .ok (.iload_n 1, 1) := by decide +kernel
theorem dX1_again_2 : decode cX1_again 2 = .ok (.invokevirtual 283, 3) := by decide +kernel
theorem dX1_again_5 : decode cX1_again 5 = .ok (.astore_n 2, 1) := by decide +kernel
theorem dX1_again_6 : decode cX1_again 6 = .ok (.aload_n 0, 1) := by decide +kernel
theorem dX1_again_7 : decode cX1_again 7 = .ok (.getfield 42, 3) := by decide +kernel
theorem dX1_again_10 : decode cX1_again 10 = .ok (.getfield 232, 3) := by decide +kernel
theorem dX1_again_13 : decode cX1_again 13 = .ok (.iload_n 1, 1) := by decide +kernel
theorem dX1_again_14 : decode cX1_again 14 = .ok (.aaload, 1) := by decide +kernel
theorem dX1_again_15 : decode cX1_again 15 = .ok (.astore_n 3, 1) := by decide +kernel
theorem dX1_again_16 : decode cX1_again 16 = .ok (.aload_n 3, 1) := by decide +kernel
theorem dX1_again_17 : decode cX1_again 17 = .ok (.getfield 236, 3) := by decide +kernel
theorem dX1_again_20 : decode cX1_again 20 = .ok (.bipush 8, 2) := by decide +kernel
theorem dX1_again_22 : decode cX1_again 22 = .ok (.if_icmp .ne 7, 3) := by decide +kernel
theorem dX1_again_25 : decode cX1_again 25 = .ok (.iconst 1, 1) := by decide +kernel
theorem dX1_again_26 : decode cX1_again 26 = .ok (.goto 4, 3) := by decide +kernel
theorem dX1_again_29 : decode cX1_again 29 = .ok (.iconst 0, 1) := by decide +kernel
theorem dX1_again_30 : decode cX1_again 30 = .ok (.invokestatic 287, 3) := by decide +kernel
theorem dX1_again_33 : decode cX1_again 33 = .ok (.aload_n 3, 1) := by decide +kernel
theorem dX1_again_34 : decode cX1_again 34 = .ok (.iconst 5, 1) := by decide +kernel
theorem dX1_again_35 : decode cX1_again 35 = .ok (.putfield 236, 3) := by decide +kernel
theorem dX1_again_38 : decode cX1_again 38 = .ok (.aload_n 3, 1) := by decide +kernel
theorem dX1_again_39 : decode cX1_again 39 = .ok (.iconst (-1), 1) := by decide +kernel
theorem dX1_again_40 : decode cX1_again 40 = .ok (.putfield 305, 3) := by decide +kernel
theorem dX1_again_43 : decode cX1_again 43 = .ok (.return_, 1) := by decide +kernel
theorem dX1_led_0 : decode cX1_led 0 = .ok (.aload_n 0, 1) := by decide +kernel
theorem dX1_led_1 : decode cX1_led 1 = .ok (.iload_n 1, 1) := by decide +kernel
theorem dX1_led_2 : decode cX1_led 2 = .ok (.invokevirtual 283, 3) := by decide +kernel
theorem dX1_led_5 : decode cX1_led 5 = .ok (.astore_n 3, 1) := by decide +kernel
theorem dX1_led_6 : decode cX1_led 6 = .ok (.aload_n 0, 1) := by decide +kernel
theorem dX1_led_7 : decode cX1_led 7 = .ok (.getfield 42, 3) := by decide +kernel
theorem dX1_led_10 : decode cX1_led 10 = .ok (.getfield 232, 3) := by decide +kernel
theorem dX1_led_13 : decode cX1_led 13 = .ok (.iload_n 1, 1) := by decide +kernel
theorem dX1_led_14 : decode cX1_led 14 = .ok (.aaload, 1) := by decide +kernel
theorem dX1_led_15 : decode cX1_led 15 = .ok (.astore 4, 2) := by decide +kernel
theorem dX1_led_17 : decode cX1_led 17 = .ok (.iload_n 2, 1) := by decide +kernel
theorem dX1_led_18 : decode cX1_led 18 = .ok (.tableswitch 185 0 15 #[78, 84, 89, 94, 99, 104, 110, 117, 125, 139, 147, 155, 161, 167, 173, 179], 78) := by decide +kernel
theorem dX1_led_96 : decode cX1_led 96 = .ok (.aload 4, 2) := by decide +kernel
theorem dX1_led_98 : decode cX1_led 98 = .ok (.getfield 236, 3) := by decide +kernel
theorem dX1_led_101 : decode cX1_led 101 = .ok (.ireturn, 1) := by decide +kernel
theorem dX1_led_102 : decode cX1_led 102 = .ok (.aload_n 3, 1) := by decide +kernel
theorem dX1_led_103 : decode cX1_led 103 = .ok (.getfield 218, 3) := by decide +kernel
theorem dX1_led_106 : decode cX1_led 106 = .ok (.ireturn, 1) := by decide +kernel
theorem dX1_led_107 : decode cX1_led 107 = .ok (.aload_n 3, 1) := by decide +kernel
theorem dX1_led_108 : decode cX1_led 108 = .ok (.getfield 308, 3) := by decide +kernel
theorem dX1_led_111 : decode cX1_led 111 = .ok (.ireturn, 1) := by decide +kernel
theorem dX1_led_112 : decode cX1_led 112 = .ok (.aload_n 3, 1) := by decide +kernel
theorem dX1_led_113 : decode cX1_led 113 = .ok (.getfield 311, 3) := by decide +kernel
theorem dX1_led_116 : decode cX1_led 116 = .ok (.ireturn, 1) := by decide +kernel
theorem dX1_led_117 : decode cX1_led 117 = .ok (.aload_n 3, 1) := by decide +kernel
theorem dX1_led_118 : decode cX1_led 118 = .ok (.getfield 314, 3) := by decide +kernel
theorem dX1_led_121 : decode cX1_led 121 = .ok (.ireturn, 1) := by decide +kernel
theorem dX1_led_122 : decode cX1_led 122 = .ok (.aload 4, 2) := by decide +kernel
theorem dX1_led_124 : decode cX1_led 124 = .ok (.getfield 274, 3) := by decide +kernel
theorem dX1_led_127 : decode cX1_led 127 = .ok (.ireturn, 1) := by decide +kernel
theorem dX1_led_128 : decode cX1_led 128 = .ok (.aload_n 3, 1) := by decide +kernel
theorem dX1_led_129 : decode cX1_led 129 = .ok (.aload 4, 2) := by decide +kernel
theorem dX1_led_131 : decode cX1_led 131 = .ok (.invokestatic 290, 3) := by decide +kernel
theorem dX1_led_134 : decode cX1_led 134 = .ok (.ireturn, 1) := by decide +kernel
theorem dX1_led_135 : decode cX1_led 135 = .ok (.aload_n 3, 1) := by decide +kernel
theorem dX1_led_136 : decode cX1_led 136 = .ok (.getfield 222, 3) := by decide +kernel
theorem dX1_led_139 : decode cX1_led 139 = .ok (.getfield 255, 3) := by decide +kernel
theorem dX1_led_142 : decode cX1_led 142 = .ok (.ireturn, 1) := by decide +kernel
theorem dX1_led_143 : decode cX1_led 143 = .ok (.aload 4, 2) := by decide +kernel
theorem dX1_led_145 : decode cX1_led 145 = .ok (.getfield 317, 3) := by decide +kernel
theorem dX1_led_148 : decode cX1_led 148 = .ok (.ifCond .eq 7, 3) := by decide +kernel
theorem dX1_led_151 : decode cX1_led 151 = .ok (.iconst 1, 1) := by decide +kernel
theorem dX1_led_152 : decode cX1_led 152 = .ok (.goto 4, 3) := by decide +kernel
theorem dX1_led_155 : decode cX1_led 155 = .ok (.iconst 0, 1) := by decide +kernel
theorem dX1_led_156 : decode cX1_led 156 = .ok (.ireturn, 1) := by decide +kernel
theorem dX1_led_157 : decode cX1_led 157 = .ok (.aload_n 3, 1) := by decide +kernel
theorem dX1_led_158 : decode cX1_led 158 = .ok (.getfield 222, 3) := by decide +kernel
theorem dX1_led_161 : decode cX1_led 161 = .ok (.getfield 229, 3) := by decide +kernel
theorem dX1_led_164 : decode cX1_led 164 = .ok (.ireturn, 1) := by decide +kernel
theorem dX1_led_165 : decode cX1_led 165 = .ok (.aload_n 3, 1) := by decide +kernel
theorem dX1_led_166 : decode cX1_led 166 = .ok (.getfield 222, 3) := by decide +kernel
theorem dX1_led_169 : decode cX1_led 169 = .ok (.getfield 258, 3) := by decide +kernel
theorem dX1_led_172 : decode cX1_led 172 = .ok (.ireturn, 1) := by decide +kernel
theorem dX1_led_173 : decode cX1_led 173 = .ok (.aload 4, 2) := by decide +kernel
theorem dX1_led_175 : decode cX1_led 175 = .ok (.getfield 294, 3) := by decide +kernel
theorem dX1_led_178 : decode cX1_led 178 = .ok (.ireturn, 1) := by decide +kernel
theorem dX1_led_179 : decode cX1_led 179 = .ok (.aload 4, 2) := by decide +kernel
theorem dX1_led_181 : decode cX1_led 181 = .ok (.getfield 320, 3) := by decide +kernel
theorem dX1_led_184 : decode cX1_led 184 = .ok (.ireturn, 1) := by decide +kernel
theorem dX1_led_185 : decode cX1_led 185 = .ok (.aload 4, 2) := by decide +kernel
theorem dX1_led_187 : decode cX1_led 187 = .ok (.getfield 323, 3) := by decide +kernel
theorem dX1_led_190 : decode cX1_led 190 = .ok (.ireturn, 1) := by decide +kernel
theorem dX1_led_191 : decode cX1_led 191 = .ok (.aload 4, 2) := by decide +kernel
theorem dX1_led_193 : decode cX1_led 193 = .ok (.getfield 305, 3) := by decide +kernel
theorem dX1_led_196 : decode cX1_led 196 = .ok (.ireturn, 1) := by decide +kernel
theorem dX1_led_197 : decode cX1_led 197 = .ok (.aload 4, 2) := by decide +kernel
theorem dX1_led_199 : decode cX1_led 199 = .ok (.getfield 326, 3) := by decide +kernel
theorem dX1_led_202 : decode cX1_led 202 = .ok (.ireturn, 1) := by decide +kernel
theorem dX1_led_203 : decode cX1_led 203 = .ok (.new 264, 3) := by decide +kernel
theorem dX1_led_206 : decode cX1_led 206 = .ok (.dup, 1) := by decide +kernel
theorem dX1_led_207 : decode cX1_led 207 = .ok (.invokespecial 266, 3) := by decide +kernel
theorem dX1_led_210 : decode cX1_led 210 = .ok (.athrow, 1) := by decide +kernel
theorem dX1_queue_0 : decode cX1_queue 0 = .ok (.iload_n 1, 1) := by decide +kernel
theorem dX1_queue_1 : decode cX1_queue 1 = .ok (.invokestatic 329, 3) := by decide +kernel
theorem dX1_queue_4 : decode cX1_queue 4 = .ok (.aload_n 0, 1) := by decide +kernel
theorem dX1_queue_5 : decode cX1_queue 5 = .ok (.aload_n 0, 1) := by decide +kernel
theorem dX1_queue_6 : decode cX1_queue 6 = .ok (.getfield 42, 3) := by decide +kernel
theorem dX1_queue_9 : decode cX1_queue 9 = .ok (.iload_n 1, 1) := by decide +kernel
theorem dX1_queue_10 : decode cX1_queue 10 = .ok (.aload_n 0, 1) := by decide +kernel
theorem dX1_queue_11 : decode cX1_queue 11 = .ok (.getfield 350, 3) := by decide +kernel
theorem dX1_queue_14 : decode cX1_queue 14 = .ok (.invokevirtual 370, 3) := by decide +kernel
theorem dX1_queue_17 : decode cX1_queue 17 = .ok (.ireturn, 1) := by decide +kernel
theorem dX1_ahead_0 : decode cX1_ahead 0 = .ok (.aload_n 0, 1) := by decide +kernel
theorem dX1_ahead_1 : decode cX1_ahead 1 = .ok (.iload_n 1, 1) := by decide +kernel
theorem dX1_ahead_2 : decode cX1_ahead 2 = .ok (.invokevirtual 283, 3) := by decide +kernel
theorem dX1_ahead_5 : decode cX1_ahead 5 = .ok (.astore_n 2, 1) := by decide +kernel
theorem dX1_ahead_6 : decode cX1_ahead 6 = .ok (.aload_n 0, 1) := by decide +kernel
theorem dX1_ahead_7 : decode cX1_ahead 7 = .ok (.getfield 42, 3) := by decide +kernel
theorem dX1_ahead_10 : decode cX1_ahead 10 = .ok (.getfield 232, 3) := by decide +kernel
theorem dX1_ahead_13 : decode cX1_ahead 13 = .ok (.iload_n 1, 1) := by decide +kernel
theorem dX1_ahead_14 : decode cX1_ahead 14 = .ok (.aaload, 1) := by decide +kernel
theorem dX1_ahead_15 : decode cX1_ahead 15 = .ok (.getfield 236, 3) := by decide +kernel
theorem dX1_ahead_18 : decode cX1_ahead 18 = .ok (.invokestatic 363, 3) := by decide +kernel
theorem dX1_ahead_21 : decode cX1_ahead 21 = .ok (.istore_n 3, 1) := by decide +kernel
theorem dX1_ahead_22 : decode cX1_ahead 22 = .ok (.iload_n 3, 1) := by decide +kernel
theorem dX1_ahead_23 : decode cX1_ahead 23 = .ok (.iconst (-1), 1) := by decide +kernel
theorem dX1_ahead_24 : decode cX1_ahead 24 = .ok (.if_icmp .ne 5, 3) := by decide +kernel
theorem dX1_ahead_27 : decode cX1_ahead 27 = .ok (.iconst (-1), 1) := by decide +kernel
theorem dX1_ahead_28 : decode cX1_ahead 28 = .ok (.ireturn, 1) := by decide +kernel
theorem dX1_ahead_29 : decode cX1_ahead 29 = .ok (.aload_n 0, 1) := by decide +kernel
theorem dX1_ahead_30 : decode cX1_ahead 30 = .ok (.aload_n 0, 1) := by decide +kernel
theorem dX1_ahead_31 : decode cX1_ahead 31 = .ok (.getfield 42, 3) := by decide +kernel
theorem dX1_ahead_34 : decode cX1_ahead 34 = .ok (.iload_n 3, 1) := by decide +kernel
theorem dX1_ahead_35 : decode cX1_ahead 35 = .ok (.aload_n 0, 1) := by decide +kernel
theorem dX1_ahead_36 : decode cX1_ahead 36 = .ok (.getfield 350, 3) := by decide +kernel
theorem dX1_ahead_39 : decode cX1_ahead 39 = .ok (.invokevirtual 370, 3) := by decide +kernel
theorem dX1_ahead_42 : decode cX1_ahead 42 = .ok (.istore 4, 2) := by decide +kernel
theorem dX1_ahead_44 : decode cX1_ahead 44 = .ok (.iconst 0, 1) := by decide +kernel
theorem dX1_ahead_45 : decode cX1_ahead 45 = .ok (.istore 5, 2) := by decide +kernel
theorem dX1_ahead_47 : decode cX1_ahead 47 = .ok (.aload_n 0, 1) := by decide +kernel
theorem dX1_ahead_48 : decode cX1_ahead 48 = .ok (.getfield 65, 3) := by decide +kernel
theorem dX1_ahead_51 : decode cX1_ahead 51 = .ok (.iload 5, 2) := by decide +kernel
theorem dX1_ahead_53 : decode cX1_ahead 53 = .ok (.iaload, 1) := by decide +kernel
theorem dX1_ahead_54 : decode cX1_ahead 54 = .ok (.iload_n 1, 1) := by decide +kernel
theorem dX1_ahead_55 : decode cX1_ahead 55 = .ok (.if_icmp .eq 9, 3) := by decide +kernel
theorem dX1_ahead_58 : decode cX1_ahead 58 = .ok (.iinc 5 1, 3) := by decide +kernel
theorem dX1_ahead_61 : decode cX1_ahead 61 = .ok (.goto (-14), 3) := by decide +kernel
theorem dX1_ahead_64 : decode cX1_ahead 64 = .ok (.iload 5, 2) := by decide +kernel
theorem dX1_ahead_66 : decode cX1_ahead 66 = .ok (.ireturn, 1) := by decide +kernel
theorem dX1_booklet_0 : decode cX1_booklet 0 = .ok (.iload_n 1, 1) := by decide +kernel
theorem dX1_booklet_1 : decode cX1_booklet 1 = .ok (.iconst 0, 1) := by decide +kernel
theorem dX1_booklet_2 : decode cX1_booklet 2 = .ok (.aload_n 0, 1) := by decide +kernel
theorem dX1_booklet_3 : decode cX1_booklet 3 = .ok (.getfield 42, 3) := by decide +kernel
theorem dX1_booklet_6 : decode cX1_booklet 6 = .ok (.getfield 167, 3) := by decide +kernel
theorem dX1_booklet_9 : decode cX1_booklet 9 = .ok (.iconst 1, 1) := by decide +kernel
theorem dX1_booklet_10 : decode cX1_booklet 10 = .ok (.isub, 1) := by decide +kernel
theorem dX1_booklet_11 : decode cX1_booklet 11 = .ok (.invokestatic 114, 3) := by decide +kernel
theorem dX1_booklet_14 : decode cX1_booklet 14 = .ok (.invokestatic 118, 3) := by decide +kernel
theorem dX1_booklet_17 : decode cX1_booklet 17 = .ok (.aload_n 0, 1) := by decide +kernel
theorem dX1_booklet_18 : decode cX1_booklet 18 = .ok (.getfield 51, 3) := by decide +kernel
theorem dX1_booklet_21 : decode cX1_booklet 21 = .ok (.iload_n 1, 1) := by decide +kernel
theorem dX1_booklet_22 : decode cX1_booklet 22 = .ok (.aaload, 1) := by decide +kernel
theorem dX1_booklet_23 : decode cX1_booklet 23 = .ok (.astore_n 3, 1) := by decide +kernel
theorem dX1_booklet_24 : decode cX1_booklet 24 = .ok (.iload_n 2, 1) := by decide +kernel
theorem dX1_booklet_25 : decode cX1_booklet 25 = .ok (.tableswitch 51 0 3 #[31, 36, 41, 46], 31) := by decide +kernel
theorem dX1_booklet_56 : decode cX1_booklet 56 = .ok (.aload_n 3, 1) := by decide +kernel
theorem dX1_booklet_57 : decode cX1_booklet 57 = .ok (.getfield 169, 3) := by decide +kernel
theorem dX1_booklet_60 : decode cX1_booklet 60 = .ok (.ireturn, 1) := by decide +kernel
theorem dX1_booklet_61 : decode cX1_booklet 61 = .ok (.aload_n 3, 1) := by decide +kernel
theorem dX1_booklet_62 : decode cX1_booklet 62 = .ok (.getfield 413, 3) := by decide +kernel
theorem dX1_booklet_65 : decode cX1_booklet 65 = .ok (.ireturn, 1) := by decide +kernel
theorem dX1_booklet_66 : decode cX1_booklet 66 = .ok (.aload_n 3, 1) := by decide +kernel
theorem dX1_booklet_67 : decode cX1_booklet 67 = .ok (.getfield 297, 3) := by decide +kernel
theorem dX1_booklet_70 : decode cX1_booklet 70 = .ok (.ireturn, 1) := by decide +kernel
theorem dX1_booklet_71 : decode cX1_booklet 71 = .ok (.aload_n 3, 1) := by decide +kernel
theorem dX1_booklet_72 : decode cX1_booklet 72 = .ok (.getfield 416, 3) := by decide +kernel
theorem dX1_booklet_75 : decode cX1_booklet 75 = .ok (.ireturn, 1) := by decide +kernel
theorem dX1_booklet_76 : decode cX1_booklet 76 = .ok (.new 264, 3) := by decide +kernel
theorem dX1_booklet_79 : decode cX1_booklet 79 = .ok (.dup, 1) := by decide +kernel
theorem dX1_booklet_80 : decode cX1_booklet 80 = .ok (.invokespecial 266, 3) := by decide +kernel
theorem dX1_booklet_83 : decode cX1_booklet 83 = .ok (.athrow, 1) := by decide +kernel
theorem dX1_valid_0 : decode cX1_valid 0 = .ok (.aload_n 0, 1) := by decide +kernel
theorem dX1_valid_1 : decode cX1_valid 1 = .ok (.iload_n 1, 1) := by decide +kernel
theorem dX1_valid_2 : decode cX1_valid 2 = .ok (.invokevirtual 201, 3) := by decide +kernel
theorem dX1_valid_5 : decode cX1_valid 5 = .ok (.astore_n 3, 1) := by decide +kernel
theorem dX1_valid_6 : decode cX1_valid 6 = .ok (.aload_n 0, 1) := by decide +kernel
theorem dX1_valid_7 : decode cX1_valid 7 = .ok (.iload_n 1, 1) := by decide +kernel
theorem dX1_valid_8 : decode cX1_valid 8 = .ok (.iload_n 2, 1) := by decide +kernel
theorem dX1_valid_9 : decode cX1_valid 9 = .ok (.invokevirtual 186, 3) := by decide +kernel
theorem dX1_valid_12 : decode cX1_valid 12 = .ok (.ireturn, 1) := by decide +kernel
theorem dX1_missed_0 : decode cX1_missed 0 = .ok (.iload_n 1, 1) := by decide +kernel
theorem dX1_missed_1 : decode cX1_missed 1 = .ok (.iconst 0, 1) := by decide +kernel
theorem dX1_missed_2 : decode cX1_missed 2 = .ok (.iconst 2, 1) := by decide +kernel
theorem dX1_missed_3 : decode cX1_missed 3 = .ok (.invokestatic 114, 3) := by decide +kernel
theorem dX1_missed_6 : decode cX1_missed 6 = .ok (.ifCond .eq 17, 3) := by decide +kernel
theorem dX1_missed_9 : decode cX1_missed 9 = .ok (.iload_n 2, 1) := by decide +kernel
theorem dX1_missed_10 : decode cX1_missed 10 = .ok (.iconst 0, 1) := by decide +kernel
theorem dX1_missed_11 : decode cX1_missed 11 = .ok (.bipush 60, 2) := by decide +kernel
theorem dX1_missed_13 : decode cX1_missed 13 = .ok (.invokestatic 114, 3) := by decide +kernel
theorem dX1_missed_16 : decode cX1_missed 16 = .ok (.ifCond .eq 7, 3) := by decide +kernel
theorem dX1_missed_19 : decode cX1_missed 19 = .ok (.iconst 1, 1) := by decide +kernel
theorem dX1_missed_20 : decode cX1_missed 20 = .ok (.goto 4, 3) := by decide +kernel
theorem dX1_missed_23 : decode cX1_missed 23 = .ok (.iconst 0, 1) := by decide +kernel
theorem dX1_missed_24 : decode cX1_missed 24 = .ok (.invokestatic 143, 3) := by decide +kernel
theorem dX1_missed_27 : decode cX1_missed 27 = .ok (.aload_n 0, 1) := by decide +kernel
theorem dX1_missed_28 : decode cX1_missed 28 = .ok (.getfield 46, 3) := by decide +kernel
theorem dX1_missed_31 : decode cX1_missed 31 = .ok (.aload_n 0, 1) := by decide +kernel
theorem dX1_missed_32 : decode cX1_missed 32 = .ok (.getfield 42, 3) := by decide +kernel
theorem dX1_missed_35 : decode cX1_missed 35 = .ok (.aload_n 0, 1) := by decide +kernel
theorem dX1_missed_36 : decode cX1_missed 36 = .ok (.getfield 122, 3) := by decide +kernel
theorem dX1_missed_39 : decode cX1_missed 39 = .ok (.invokevirtual 419, 3) := by decide +kernel
theorem dX1_missed_42 : decode cX1_missed 42 = .ok (.iconst 0, 1) := by decide +kernel
theorem dX1_missed_43 : decode cX1_missed 43 = .ok (.istore_n 3, 1) := by decide +kernel
theorem dX1_missed_44 : decode cX1_missed 44 = .ok (.iload_n 3, 1) := by decide +kernel
theorem dX1_missed_45 : decode cX1_missed 45 = .ok (.iload_n 2, 1) := by decide +kernel
theorem dX1_missed_46 : decode cX1_missed 46 = .ok (.if_icmp .ge 18, 3) := by decide +kernel
theorem dX1_missed_49 : decode cX1_missed 49 = .ok (.aload_n 0, 1) := by decide +kernel
theorem dX1_missed_50 : decode cX1_missed 50 = .ok (.aload_n 0, 1) := by decide +kernel
theorem dX1_missed_51 : decode cX1_missed 51 = .ok (.getfield 46, 3) := by decide +kernel
theorem dX1_missed_54 : decode cX1_missed 54 = .ok (.iload_n 1, 1) := by decide +kernel
theorem dX1_missed_55 : decode cX1_missed 55 = .ok (.invokevirtual 407, 3) := by decide +kernel
theorem dX1_missed_58 : decode cX1_missed 58 = .ok (.iinc 3 1, 3) := by decide +kernel
theorem dX1_missed_61 : decode cX1_missed 61 = .ok (.goto (-17), 3) := by decide +kernel
theorem dX1_missed_64 : decode cX1_missed 64 = .ok (.iconst 0, 1) := by decide +kernel
theorem dX1_missed_65 : decode cX1_missed 65 = .ok (.istore_n 3, 1) := by decide +kernel
theorem dX1_missed_66 : decode cX1_missed 66 = .ok (.iconst 0, 1) := by decide +kernel
theorem dX1_missed_67 : decode cX1_missed 67 = .ok (.istore 4, 2) := by decide +kernel
theorem dX1_missed_69 : decode cX1_missed 69 = .ok (.iload 4, 2) := by decide +kernel
theorem dX1_missed_71 : decode cX1_missed 71 = .ok (.aload_n 0, 1) := by decide +kernel
theorem dX1_missed_72 : decode cX1_missed 72 = .ok (.getfield 122, 3) := by decide +kernel
theorem dX1_missed_75 : decode cX1_missed 75 = .ok (.if_icmp .ge 99, 3) := by decide +kernel
theorem dX1_missed_78 : decode cX1_missed 78 = .ok (.aload_n 0, 1) := by decide +kernel
theorem dX1_missed_79 : decode cX1_missed 79 = .ok (.getfield 46, 3) := by decide +kernel
theorem dX1_missed_82 : decode cX1_missed 82 = .ok (.getfield 232, 3) := by decide +kernel
theorem dX1_missed_85 : decode cX1_missed 85 = .ok (.iload 4, 2) := by decide +kernel
theorem dX1_missed_87 : decode cX1_missed 87 = .ok (.aaload, 1) := by decide +kernel
theorem dX1_missed_88 : decode cX1_missed 88 = .ok (.astore 5, 2) := by decide +kernel
theorem dX1_missed_90 : decode cX1_missed 90 = .ok (.aload_n 0, 1) := by decide +kernel
theorem dX1_missed_91 : decode cX1_missed 91 = .ok (.getfield 42, 3) := by decide +kernel
theorem dX1_missed_94 : decode cX1_missed 94 = .ok (.getfield 232, 3) := by decide +kernel
theorem dX1_missed_97 : decode cX1_missed 97 = .ok (.iload 4, 2) := by decide +kernel
theorem dX1_missed_99 : decode cX1_missed 99 = .ok (.aaload, 1) := by decide +kernel
theorem dX1_missed_100 : decode cX1_missed 100 = .ok (.getfield 236, 3) := by decide +kernel
theorem dX1_missed_103 : decode cX1_missed 103 = .ok (.bipush 6, 2) := by decide +kernel
theorem dX1_missed_105 : decode cX1_missed 105 = .ok (.if_icmp .gt 63, 3) := by decide +kernel
theorem dX1_missed_108 : decode cX1_missed 108 = .ok (.aload_n 0, 1) := by decide +kernel
theorem dX1_missed_109 : decode cX1_missed 109 = .ok (.getfield 35, 3) := by decide +kernel
theorem dX1_missed_112 : decode cX1_missed 112 = .ok (.iload 4, 2) := by decide +kernel
theorem dX1_missed_114 : decode cX1_missed 114 = .ok (.aaload, 1) := by decide +kernel
theorem dX1_missed_115 : decode cX1_missed 115 = .ok (.getfield 314, 3) := by decide +kernel
theorem dX1_missed_118 : decode cX1_missed 118 = .ok (.aload_n 0, 1) := by decide +kernel
theorem dX1_missed_119 : decode cX1_missed 119 = .ok (.getfield 42, 3) := by decide +kernel
theorem dX1_missed_122 : decode cX1_missed 122 = .ok (.getfield 140, 3) := by decide +kernel
theorem dX1_missed_125 : decode cX1_missed 125 = .ok (.iload_n 2, 1) := by decide +kernel
theorem dX1_missed_126 : decode cX1_missed 126 = .ok (.iadd, 1) := by decide +kernel
theorem dX1_missed_127 : decode cX1_missed 127 = .ok (.if_icmp .le 6, 3) := by decide +kernel
theorem dX1_missed_130 : decode cX1_missed 130 = .ok (.goto 38, 3) := by decide +kernel
theorem dX1_missed_133 : decode cX1_missed 133 = .ok (.iload_n 3, 1) := by decide +kernel
theorem dX1_missed_134 : decode cX1_missed 134 = .ok (.aload 5, 2) := by decide +kernel
theorem dX1_missed_136 : decode cX1_missed 136 = .ok (.getfield 323, 3) := by decide +kernel
theorem dX1_missed_139 : decode cX1_missed 139 = .ok (.iconst (-1), 1) := by decide +kernel
theorem dX1_missed_140 : decode cX1_missed 140 = .ok (.if_icmp .eq 25, 3) := by decide +kernel
theorem dX1_missed_143 : decode cX1_missed 143 = .ok (.aload 5, 2) := by decide +kernel
theorem dX1_missed_145 : decode cX1_missed 145 = .ok (.getfield 323, 3) := by decide +kernel
theorem dX1_missed_148 : decode cX1_missed 148 = .ok (.aload_n 0, 1) := by decide +kernel
theorem dX1_missed_149 : decode cX1_missed 149 = .ok (.getfield 35, 3) := by decide +kernel
theorem dX1_missed_152 : decode cX1_missed 152 = .ok (.iload 4, 2) := by decide +kernel
theorem dX1_missed_154 : decode cX1_missed 154 = .ok (.aaload, 1) := by decide +kernel
theorem dX1_missed_155 : decode cX1_missed 155 = .ok (.getfield 314, 3) := by decide +kernel
theorem dX1_missed_158 : decode cX1_missed 158 = .ok (.if_icmp .gt 7, 3) := by decide +kernel
theorem dX1_missed_161 : decode cX1_missed 161 = .ok (.iconst 0, 1) := by decide +kernel
theorem dX1_missed_162 : decode cX1_missed 162 = .ok (.goto 4, 3) := by decide +kernel
theorem dX1_missed_165 : decode cX1_missed 165 = .ok (.iconst 1, 1) := by decide +kernel
theorem dX1_missed_166 : decode cX1_missed 166 = .ok (.iadd, 1) := by decide +kernel
theorem dX1_missed_167 : decode cX1_missed 167 = .ok (.istore_n 3, 1) := by decide +kernel
theorem dX1_missed_168 : decode cX1_missed 168 = .ok (.iinc 4 1, 3) := by decide +kernel
theorem dX1_missed_171 : decode cX1_missed 171 = .ok (.goto (-102), 3) := by decide +kernel
theorem dX1_missed_174 : decode cX1_missed 174 = .ok (.iload_n 3, 1) := by decide +kernel
theorem dX1_missed_175 : decode cX1_missed 175 = .ok (.ireturn, 1) := by decide +kernel
theorem dX1_waits_0 : decode cX1_waits 0 = .ok (.iload_n 1, 1) := by decide +kernel
theorem dX1_waits_1 : decode cX1_waits 1 = .ok (.iconst 0, 1) := by decide +kernel
theorem dX1_waits_2 : decode cX1_waits 2 = .ok (.iconst 3, 1) := by decide +kernel
theorem dX1_waits_3 : decode cX1_waits 3 = .ok (.invokestatic 114, 3) := by decide +kernel
theorem dX1_waits_6 : decode cX1_waits 6 = .ok (.invokestatic 143, 3) := by decide +kernel
theorem dX1_waits_9 : decode cX1_waits 9 = .ok (.iconst 0, 1) := by decide +kernel
theorem dX1_waits_10 : decode cX1_waits 10 = .ok (.istore_n 3, 1) := by decide +kernel
theorem dX1_waits_11 : decode cX1_waits 11 = .ok (.iconst 0, 1) := by decide +kernel
theorem dX1_waits_12 : decode cX1_waits 12 = .ok (.istore 4, 2) := by decide +kernel
theorem dX1_waits_14 : decode cX1_waits 14 = .ok (.iload 4, 2) := by decide +kernel
theorem dX1_waits_16 : decode cX1_waits 16 = .ok (.aload_n 0, 1) := by decide +kernel
theorem dX1_waits_17 : decode cX1_waits 17 = .ok (.getfield 122, 3) := by decide +kernel
theorem dX1_waits_20 : decode cX1_waits 20 = .ok (.if_icmp .ge 104, 3) := by decide +kernel
theorem dX1_waits_23 : decode cX1_waits 23 = .ok (.aload_n 0, 1) := by decide +kernel
theorem dX1_waits_24 : decode cX1_waits 24 = .ok (.getfield 42, 3) := by decide +kernel
theorem dX1_waits_27 : decode cX1_waits 27 = .ok (.getfield 232, 3) := by decide +kernel
theorem dX1_waits_30 : decode cX1_waits 30 = .ok (.iload 4, 2) := by decide +kernel
theorem dX1_waits_32 : decode cX1_waits 32 = .ok (.aaload, 1) := by decide +kernel
theorem dX1_waits_33 : decode cX1_waits 33 = .ok (.getfield 236, 3) := by decide +kernel
theorem dX1_waits_36 : decode cX1_waits 36 = .ok (.bipush 7, 2) := by decide +kernel
theorem dX1_waits_38 : decode cX1_waits 38 = .ok (.if_icmp .ne 80, 3) := by decide +kernel
theorem dX1_waits_41 : decode cX1_waits 41 = .ok (.aload_n 0, 1) := by decide +kernel
theorem dX1_waits_42 : decode cX1_waits 42 = .ok (.getfield 35, 3) := by decide +kernel
theorem dX1_waits_45 : decode cX1_waits 45 = .ok (.iload 4, 2) := by decide +kernel
theorem dX1_waits_47 : decode cX1_waits 47 = .ok (.aaload, 1) := by decide +kernel
theorem dX1_waits_48 : decode cX1_waits 48 = .ok (.getfield 308, 3) := by decide +kernel
theorem dX1_waits_51 : decode cX1_waits 51 = .ok (.iload_n 1, 1) := by decide +kernel
theorem dX1_waits_52 : decode cX1_waits 52 = .ok (.if_icmp .eq 6, 3) := by decide +kernel
theorem dX1_waits_55 : decode cX1_waits 55 = .ok (.goto 63, 3) := by decide +kernel
theorem dX1_waits_58 : decode cX1_waits 58 = .ok (.iload_n 3, 1) := by decide +kernel
theorem dX1_waits_59 : decode cX1_waits 59 = .ok (.istore 5, 2) := by decide +kernel
theorem dX1_waits_61 : decode cX1_waits 61 = .ok (.iload 5, 2) := by decide +kernel
theorem dX1_waits_63 : decode cX1_waits 63 = .ok (.ifCond .le 43, 3) := by decide +kernel
theorem dX1_waits_66 : decode cX1_waits 66 = .ok (.aload_n 0, 1) := by decide +kernel
theorem dX1_waits_67 : decode cX1_waits 67 = .ok (.iload 4, 2) := by decide +kernel
theorem dX1_waits_69 : decode cX1_waits 69 = .ok (.aload_n 0, 1) := by decide +kernel
theorem dX1_waits_70 : decode cX1_waits 70 = .ok (.getfield 65, 3) := by decide +kernel
theorem dX1_waits_73 : decode cX1_waits 73 = .ok (.iload 5, 2) := by decide +kernel
theorem dX1_waits_75 : decode cX1_waits 75 = .ok (.iconst 1, 1) := by decide +kernel
theorem dX1_waits_76 : decode cX1_waits 76 = .ok (.isub, 1) := by decide +kernel
theorem dX1_waits_77 : decode cX1_waits 77 = .ok (.iaload, 1) := by decide +kernel
theorem dX1_waits_78 : decode cX1_waits 78 = .ok (.invokevirtual 422, 3) := by decide +kernel
theorem dX1_waits_81 : decode cX1_waits 81 = .ok (.ifCond .eq 25, 3) := by decide +kernel
theorem dX1_waits_84 : decode cX1_waits 84 = .ok (.aload_n 0, 1) := by decide +kernel
theorem dX1_waits_85 : decode cX1_waits 85 = .ok (.getfield 65, 3) := by decide +kernel
theorem dX1_waits_88 : decode cX1_waits 88 = .ok (.iload 5, 2) := by decide +kernel
theorem dX1_waits_90 : decode cX1_waits 90 = .ok (.aload_n 0, 1) := by decide +kernel
theorem dX1_waits_91 : decode cX1_waits 91 = .ok (.getfield 65, 3) := by decide +kernel
theorem dX1_waits_94 : decode cX1_waits 94 = .ok (.iload 5, 2) := by decide +kernel
theorem dX1_waits_96 : decode cX1_waits 96 = .ok (.iconst 1, 1) := by decide +kernel
theorem dX1_waits_97 : decode cX1_waits 97 = .ok (.isub, 1) := by decide +kernel
theorem dX1_waits_98 : decode cX1_waits 98 = .ok (.iaload, 1) := by decide +kernel
theorem dX1_waits_99 : decode cX1_waits 99 = .ok (.iastore, 1) := by decide +kernel
theorem dX1_waits_100 : decode cX1_waits 100 = .ok (.iinc 5 (-1), 3) := by decide +kernel
theorem dX1_waits_103 : decode cX1_waits 103 = .ok (.goto (-42), 3) := by decide +kernel
theorem dX1_waits_106 : decode cX1_waits 106 = .ok (.aload_n 0, 1) := by decide +kernel
theorem dX1_waits_107 : decode cX1_waits 107 = .ok (.getfield 65, 3) := by decide +kernel
theorem dX1_waits_110 : decode cX1_waits 110 = .ok (.iload 5, 2) := by decide +kernel
theorem dX1_waits_112 : decode cX1_waits 112 = .ok (.iload 4, 2) := by decide +kernel
theorem dX1_waits_114 : decode cX1_waits 114 = .ok (.iastore, 1) := by decide +kernel
theorem dX1_waits_115 : decode cX1_waits 115 = .ok (.iinc 3 1, 3) := by decide +kernel
theorem dX1_waits_118 : decode cX1_waits 118 = .ok (.iinc 4 1, 3) := by decide +kernel
theorem dX1_waits_121 : decode cX1_waits 121 = .ok (.goto (-107), 3) := by decide +kernel
theorem dX1_waits_124 : decode cX1_waits 124 = .ok (.iconst 0, 1) := by decide +kernel
theorem dX1_waits_125 : decode cX1_waits 125 = .ok (.iload_n 3, 1) := by decide +kernel
theorem dX1_waits_126 : decode cX1_waits 126 = .ok (.bipush 20, 2) := by decide +kernel
theorem dX1_waits_128 : decode cX1_waits 128 = .ok (.isub, 1) := by decide +kernel
theorem dX1_waits_129 : decode cX1_waits 129 = .ok (.invokestatic 344, 3) := by decide +kernel
theorem dX1_waits_132 : decode cX1_waits 132 = .ok (.istore 4, 2) := by decide +kernel
theorem dX1_waits_134 : decode cX1_waits 134 = .ok (.iload_n 3, 1) := by decide +kernel
theorem dX1_waits_135 : decode cX1_waits 135 = .ok (.iload 4, 2) := by decide +kernel
theorem dX1_waits_137 : decode cX1_waits 137 = .ok (.isub, 1) := by decide +kernel
theorem dX1_waits_138 : decode cX1_waits 138 = .ok (.istore 5, 2) := by decide +kernel
theorem dX1_waits_140 : decode cX1_waits 140 = .ok (.iconst 0, 1) := by decide +kernel
theorem dX1_waits_141 : decode cX1_waits 141 = .ok (.istore 6, 2) := by decide +kernel
theorem dX1_waits_143 : decode cX1_waits 143 = .ok (.iload 6, 2) := by decide +kernel
theorem dX1_waits_145 : decode cX1_waits 145 = .ok (.iload 5, 2) := by decide +kernel
theorem dX1_waits_147 : decode cX1_waits 147 = .ok (.if_icmp .ge 101, 3) := by decide +kernel
theorem dX1_waits_150 : decode cX1_waits 150 = .ok (.aload_n 0, 1) := by decide +kernel
theorem dX1_waits_151 : decode cX1_waits 151 = .ok (.getfield 65, 3) := by decide +kernel
theorem dX1_waits_154 : decode cX1_waits 154 = .ok (.iload 4, 2) := by decide +kernel
theorem dX1_waits_156 : decode cX1_waits 156 = .ok (.iload 6, 2) := by decide +kernel
theorem dX1_waits_158 : decode cX1_waits 158 = .ok (.iadd, 1) := by decide +kernel
