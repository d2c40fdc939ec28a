set_option maxRecDepth 100000
theorem dX0_init_0 : decode cX0_init 0 = .ok (.aload_n 0, 1) := by decide +kernel
theorem dX0_init_1 : decode cX0_init 1 = .ok (.invokespecial 1, 3) := by decide +kernel
theorem dX0_init_4 : decode cX0_init 4 = .ok (.aload_n 0, 1) := by decide +kernel
theorem dX0_init_5 : decode cX0_init 5 = .ok (.bipush 50, 2) := by decide +kernel
theorem dX0_init_7 : decode cX0_init 7 = .ok (.putfield 7, 3) := by decide +kernel
theorem dX0_init_10 : decode cX0_init 10 = .ok (.aload_n 0, 1) := by decide +kernel
theorem dX0_init_11 : decode cX0_init 11 = .ok (.iconst 3, 1) := by decide +kernel
theorem dX0_init_12 : decode cX0_init 12 = .ok (.putfield 13, 3) := by decide +kernel
theorem dX0_init_15 : decode cX0_init 15 = .ok (.aload_n 0, 1) := by decide +kernel
theorem dX0_init_16 : decode cX0_init 16 = .ok (.new 16, 3) := by decide +kernel
theorem dX0_init_19 : decode cX0_init 19 = .ok (.dup, 1) := by decide +kernel
theorem dX0_init_20 : decode cX0_init 20 = .ok (.invokespecial 18, 3) := by decide +kernel
theorem dX0_init_23 : decode cX0_init 23 = .ok (.putfield 19, 3) := by decide +kernel
theorem dX0_init_26 : decode cX0_init 26 = .ok (.aload_n 0, 1) := by decide +kernel
theorem dX0_init_27 : decode cX0_init 27 = .ok (.bipush 30, 2) := by decide +kernel
theorem dX0_init_29 : decode cX0_init 29 = .ok (.newarray .int, 2) := by decide +kernel
theorem dX0_init_31 : decode cX0_init 31 = .ok (.putfield 23, 3) := by decide +kernel
theorem dX0_init_34 : decode cX0_init 34 = .ok (.aload_n 0, 1) := by decide +kernel
theorem dX0_init_35 : decode cX0_init 35 = .ok (.bipush 30, 2) := by decide +kernel
theorem dX0_init_37 : decode cX0_init 37 = .ok (.newarray .int, 2) := by decide +kernel
theorem dX0_init_39 : decode cX0_init 39 = .ok (.putfield 27, 3) := by decide +kernel
theorem dX0_init_42 : decode cX0_init 42 = .ok (.aload_n 0, 1) := by decide +kernel
theorem dX0_init_43 : decode cX0_init 43 = .ok (.bipush 30, 2) := by decide +kernel
theorem dX0_init_45 : decode cX0_init 45 = .ok (.newarray .int, 2) := by decide +kernel
theorem dX0_init_47 : decode cX0_init 47 = .ok (.putfield 30, 3) := by decide +kernel
theorem dX0_init_50 : decode cX0_init 50 = .ok (.aload_n 0, 1) := by decide +kernel
theorem dX0_init_51 : decode cX0_init 51 = .ok (.bipush 60, 2) := by decide +kernel
theorem dX0_init_53 : decode cX0_init 53 = .ok (.newarray .int, 2) := by decide +kernel
theorem dX0_init_55 : decode cX0_init 55 = .ok (.putfield 33, 3) := by decide +kernel
theorem dX0_init_58 : decode cX0_init 58 = .ok (.aload_n 0, 1) := by decide +kernel
theorem dX0_init_59 : decode cX0_init 59 = .ok (.bipush 60, 2) := by decide +kernel
theorem dX0_init_61 : decode cX0_init 61 = .ok (.newarray .int, 2) := by decide +kernel
theorem dX0_init_63 : decode cX0_init 63 = .ok (.putfield 36, 3) := by decide +kernel
theorem dX0_init_66 : decode cX0_init 66 = .ok (.aload_n 0, 1) := by decide +kernel
theorem dX0_init_67 : decode cX0_init 67 = .ok (.bipush 60, 2) := by decide +kernel
theorem dX0_init_69 : decode cX0_init 69 = .ok (.newarray .boolean, 2) := by decide +kernel
theorem dX0_init_71 : decode cX0_init 71 = .ok (.putfield 39, 3) := by decide +kernel
theorem dX0_init_74 : decode cX0_init 74 = .ok (.aload_n 0, 1) := by decide +kernel
theorem dX0_init_75 : decode cX0_init 75 = .ok (.new 16, 3) := by decide +kernel
theorem dX0_init_78 : decode cX0_init 78 = .ok (.dup, 1) := by decide +kernel
theorem dX0_init_79 : decode cX0_init 79 = .ok (.invokespecial 18, 3) := by decide +kernel
theorem dX0_init_82 : decode cX0_init 82 = .ok (.putfield 43, 3) := by decide +kernel
theorem dX0_init_85 : decode cX0_init 85 = .ok (.aload_n 0, 1) := by decide +kernel
theorem dX0_init_86 : decode cX0_init 86 = .ok (.sipush 200, 3) := by decide +kernel
theorem dX0_init_89 : decode cX0_init 89 = .ok (.newarray .int, 2) := by decide +kernel
theorem dX0_init_91 : decode cX0_init 91 = .ok (.putfield 46, 3) := by decide +kernel
theorem dX0_init_94 : decode cX0_init 94 = .ok (.aload_n 0, 1) := by decide +kernel
theorem dX0_init_95 : decode cX0_init 95 = .ok (.new 16, 3) := by decide +kernel
theorem dX0_init_98 : decode cX0_init 98 = .ok (.dup, 1) := by decide +kernel
theorem dX0_init_99 : decode cX0_init 99 = .ok (.invokespecial 18, 3) := by decide +kernel
theorem dX0_init_102 : decode cX0_init 102 = .ok (.putfield 49, 3) := by decide +kernel
theorem dX0_init_105 : decode cX0_init 105 = .ok (.aload_n 0, 1) := by decide +kernel
theorem dX0_init_106 : decode cX0_init 106 = .ok (.new 16, 3) := by decide +kernel
theorem dX0_init_109 : decode cX0_init 109 = .ok (.dup, 1) := by decide +kernel
theorem dX0_init_110 : decode cX0_init 110 = .ok (.invokespecial 18, 3) := by decide +kernel
theorem dX0_init_113 : decode cX0_init 113 = .ok (.putfield 52, 3) := by decide +kernel
theorem dX0_init_116 : decode cX0_init 116 = .ok (.aload_n 0, 1) := by decide +kernel
theorem dX0_init_117 : decode cX0_init 117 = .ok (.bipush 13, 2) := by decide +kernel
theorem dX0_init_119 : decode cX0_init 119 = .ok (.sipush 301, 3) := by decide +kernel
theorem dX0_init_122 : decode cX0_init 122 = .ok (.multianewarray 55 2, 4) := by decide +kernel
theorem dX0_init_126 : decode cX0_init 126 = .ok (.putfield 57, 3) := by decide +kernel
theorem dX0_init_129 : decode cX0_init 129 = .ok (.return_, 1) := by decide +kernel
theorem dX0_pass_0 : decode cX0_pass 0 = .ok (.iload_n 1, 1) := by decide +kernel
theorem dX0_pass_1 : decode cX0_pass 1 = .ok (.iconst 1, 1) := by decide +kernel
theorem dX0_pass_2 : decode cX0_pass 2 = .ok (.sipush 1000, 3) := by decide +kernel
theorem dX0_pass_5 : decode cX0_pass 5 = .ok (.invokestatic 60, 3) := by decide +kernel
theorem dX0_pass_8 : decode cX0_pass 8 = .ok (.ifCond .eq 15, 3) := by decide +kernel
theorem dX0_pass_11 : decode cX0_pass 11 = .ok (.aload_n 0, 1) := by decide +kernel
theorem dX0_pass_12 : decode cX0_pass 12 = .ok (.getfield 64, 3) := by decide +kernel
theorem dX0_pass_15 : decode cX0_pass 15 = .ok (.iload_n 1, 1) := by decide +kernel
theorem dX0_pass_16 : decode cX0_pass 16 = .ok (.iadd, 1) := by decide +kernel
theorem dX0_pass_17 : decode cX0_pass 17 = .ok (.sipush 10000, 3) := by decide +kernel
theorem dX0_pass_20 : decode cX0_pass 20 = .ok (.if_icmp .le 5, 3) := by decide +kernel
theorem dX0_pass_23 : decode cX0_pass 23 = .ok (.iconst (-1), 1) := by decide +kernel
theorem dX0_pass_24 : decode cX0_pass 24 = .ok (.ireturn, 1) := by decide +kernel
theorem dX0_pass_25 : decode cX0_pass 25 = .ok (.aload_n 0, 1) := by decide +kernel
theorem dX0_pass_26 : decode cX0_pass 26 = .ok (.dup, 1) := by decide +kernel
theorem dX0_pass_27 : decode cX0_pass 27 = .ok (.getfield 64, 3) := by decide +kernel
theorem dX0_pass_30 : decode cX0_pass 30 = .ok (.iload_n 1, 1) := by decide +kernel
theorem dX0_pass_31 : decode cX0_pass 31 = .ok (.iadd, 1) := by decide +kernel
theorem dX0_pass_32 : decode cX0_pass 32 = .ok (.putfield 64, 3) := by decide +kernel
theorem dX0_pass_35 : decode cX0_pass 35 = .ok (.aload_n 0, 1) := by decide +kernel
theorem dX0_pass_36 : decode cX0_pass 36 = .ok (.getfield 64, 3) := by decide +kernel
theorem dX0_pass_39 : decode cX0_pass 39 = .ok (.ireturn, 1) := by decide +kernel
theorem dX0_isIn_0 : decode cX0_isIn 0 = .ok (.iload_n 0, 1) := by decide +kernel
theorem dX0_isIn_1 : decode cX0_isIn 1 = .ok (.iload_n 1, 1) := by decide +kernel
theorem dX0_isIn_2 : decode cX0_isIn 2 = .ok (.if_icmp .lt 12, 3) := by decide +kernel
theorem dX0_isIn_5 : decode cX0_isIn 5 = .ok (.iload_n 0, 1) := by decide +kernel
theorem dX0_isIn_6 : decode cX0_isIn 6 = .ok (.iload_n 2, 1) := by decide +kernel
theorem dX0_isIn_7 : decode cX0_isIn 7 = .ok (.if_icmp .gt 7, 3) := by decide +kernel
theorem dX0_isIn_10 : decode cX0_isIn 10 = .ok (.iconst 1, 1) := by decide +kernel
theorem dX0_isIn_11 : decode cX0_isIn 11 = .ok (.goto 4, 3) := by decide +kernel
theorem dX0_isIn_14 : decode cX0_isIn 14 = .ok (.iconst 0, 1) := by decide +kernel
theorem dX0_isIn_15 : decode cX0_isIn 15 = .ok (.ireturn, 1) := by decide +kernel
theorem dX0_set_0 : decode cX0_set 0 = .ok (.iload_n 1, 1) := by decide +kernel
theorem dX0_set_1 : decode cX0_set 1 = .ok (.tableswitch 83 0 2 #[27, 46, 65], 27) := by decide +kernel
theorem dX0_set_28 : decode cX0_set 28 = .ok (.iload_n 2, 1) := by decide +kernel
theorem dX0_set_29 : decode cX0_set 29 = .ok (.iconst 1, 1) := by decide +kernel
theorem dX0_set_30 : decode cX0_set 30 = .ok (.bipush 50, 2) := by decide +kernel
theorem dX0_set_32 : decode cX0_set 32 = .ok (.invokestatic 60, 3) := by decide +kernel
theorem dX0_set_35 : decode cX0_set 35 = .ok (.ifCond .ne 5, 3) := by decide +kernel
theorem dX0_set_38 : decode cX0_set 38 = .ok (.iconst 0, 1) := by decide +kernel
theorem dX0_set_39 : decode cX0_set 39 = .ok (.ireturn, 1) := by decide +kernel
theorem dX0_set_40 : decode cX0_set 40 = .ok (.aload_n 0, 1) := by decide +kernel
theorem dX0_set_41 : decode cX0_set 41 = .ok (.iload_n 2, 1) := by decide +kernel
theorem dX0_set_42 : decode cX0_set 42 = .ok (.putfield 7, 3) := by decide +kernel
theorem dX0_set_45 : decode cX0_set 45 = .ok (.iconst 1, 1) := by decide +kernel
theorem dX0_set_46 : decode cX0_set 46 = .ok (.ireturn, 1) := by decide +kernel
theorem dX0_set_47 : decode cX0_set 47 = .ok (.iload_n 2, 1) := by decide +kernel
theorem dX0_set_48 : decode cX0_set 48 = .ok (.iconst 1, 1) := by decide +kernel
theorem dX0_set_49 : decode cX0_set 49 = .ok (.bipush 20, 2) := by decide +kernel
theorem dX0_set_51 : decode cX0_set 51 = .ok (.invokestatic 60, 3) := by decide +kernel
theorem dX0_set_54 : decode cX0_set 54 = .ok (.ifCond .ne 5, 3) := by decide +kernel
theorem dX0_set_57 : decode cX0_set 57 = .ok (.iconst 0, 1) := by decide +kernel
theorem dX0_set_58 : decode cX0_set 58 = .ok (.ireturn, 1) := by decide +kernel
theorem dX0_set_59 : decode cX0_set 59 = .ok (.aload_n 0, 1) := by decide +kernel
theorem dX0_set_60 : decode cX0_set 60 = .ok (.iload_n 2, 1) := by decide +kernel
theorem dX0_set_61 : decode cX0_set 61 = .ok (.putfield 13, 3) := by decide +kernel
theorem dX0_set_64 : decode cX0_set 64 = .ok (.iconst 1, 1) := by decide +kernel
theorem dX0_set_65 : decode cX0_set 65 = .ok (.ireturn, 1) := by decide +kernel
theorem dX0_set_66 : decode cX0_set 66 = .ok (.iload_n 2, 1) := by decide +kernel
theorem dX0_set_67 : decode cX0_set 67 = .ok (.iconst 0, 1) := by decide +kernel
theorem dX0_set_68 : decode cX0_set 68 = .ok (.iconst 5, 1) := by decide +kernel
theorem dX0_set_69 : decode cX0_set 69 = .ok (.invokestatic 60, 3) := by decide +kernel
theorem dX0_set_72 : decode cX0_set 72 = .ok (.ifCond .ne 5, 3) := by decide +kernel
theorem dX0_set_75 : decode cX0_set 75 = .ok (.iconst 0, 1) := by decide +kernel
theorem dX0_set_76 : decode cX0_set 76 = .ok (.ireturn, 1) := by decide +kernel
theorem dX0_set_77 : decode cX0_set 77 = .ok (.aload_n 0, 1) := by decide +kernel
theorem dX0_set_78 : decode cX0_set 78 = .ok (.iload_n 2, 1) := by decide +kernel
theorem dX0_set_79 : decode cX0_set 79 = .ok (.putfield 67, 3) := by decide +kernel
theorem dX0_set_82 : decode cX0_set 82 = .ok (.iconst 1, 1) := by decide +kernel
theorem dX0_set_83 : decode cX0_set 83 = .ok (.ireturn, 1) := by decide +kernel
theorem dX0_set_84 : decode cX0_set 84 = .ok (.iconst 0, 1) := by decide +kernel
theorem dX0_set_85 : decode cX0_set 85 = .ok (.ireturn, 1) := by decide +kernel
theorem dX0_silence_0 : decode cX0_silence 0 = .ok (.iload_n 1, 1) := by decide +kernel
theorem dX0_silence_1 : decode cX0_silence 1 = .ok (.iconst 0, 1) := by decide +kernel
theorem dX0_silence_2 : decode cX0_silence 2 = .ok (.bipush 9, 2) := by decide +kernel
theorem dX0_silence_4 : decode cX0_silence 4 = .ok (.invokestatic 60, 3) := by decide +kernel
theorem dX0_silence_7 : decode cX0_silence 7 = .ok (.ifCond .eq 34, 3) := by decide +kernel
theorem dX0_silence_10 : decode cX0_silence 10 = .ok (.iload_n 2, 1) := by decide +kernel
theorem dX0_silence_11 : decode cX0_silence 11 = .ok (.iconst 0, 1) := by decide +kernel
theorem dX0_silence_12 : decode cX0_silence 12 = .ok (.sipush 10000, 3) := by decide +kernel
theorem dX0_silence_15 : decode cX0_silence 15 = .ok (.invokestatic 60, 3) := by decide +kernel
theorem dX0_silence_18 : decode cX0_silence 18 = .ok (.ifCond .eq 23, 3) := by decide +kernel
theorem dX0_silence_21 : decode cX0_silence 21 = .ok (.iload_n 3, 1) := by decide +kernel
theorem dX0_silence_22 : decode cX0_silence 22 = .ok (.iload_n 2, 1) := by decide +kernel
theorem dX0_silence_23 : decode cX0_silence 23 = .ok (.sipush 10000, 3) := by decide +kernel
theorem dX0_silence_26 : decode cX0_silence 26 = .ok (.invokestatic 60, 3) := by decide +kernel
theorem dX0_silence_29 : decode cX0_silence 29 = .ok (.ifCond .eq 12, 3) := by decide +kernel
theorem dX0_silence_32 : decode cX0_silence 32 = .ok (.aload_n 0, 1) := by decide +kernel
theorem dX0_silence_33 : decode cX0_silence 33 = .ok (.getfield 80, 3) := by decide +kernel
theorem dX0_silence_36 : decode cX0_silence 36 = .ok (.bipush 30, 2) := by decide +kernel
theorem dX0_silence_38 : decode cX0_silence 38 = .ok (.if_icmp .ne 5, 3) := by decide +kernel
theorem dX0_silence_41 : decode cX0_silence 41 = .ok (.iconst (-1), 1) := by decide +kernel
theorem dX0_silence_42 : decode cX0_silence 42 = .ok (.ireturn, 1) := by decide +kernel
theorem dX0_silence_43 : decode cX0_silence 43 = .ok (.aload_n 0, 1) := by decide +kernel
theorem dX0_silence_44 : decode cX0_silence 44 = .ok (.getfield 23, 3) := by decide +kernel
theorem dX0_silence_47 : decode cX0_silence 47 = .ok (.aload_n 0, 1) := by decide +kernel
theorem dX0_silence_48 : decode cX0_silence 48 = .ok (.getfield 80, 3) := by decide +kernel
theorem dX0_silence_51 : decode cX0_silence 51 = .ok (.iload_n 1, 1) := by decide +kernel
theorem dX0_silence_52 : decode cX0_silence 52 = .ok (.iastore, 1) := by decide +kernel
theorem dX0_silence_53 : decode cX0_silence 53 = .ok (.aload_n 0, 1) := by decide +kernel
theorem dX0_silence_54 : decode cX0_silence 54 = .ok (.getfield 27, 3) := by decide +kernel
theorem dX0_silence_57 : decode cX0_silence 57 = .ok (.aload_n 0, 1) := by decide +kernel
theorem dX0_silence_58 : decode cX0_silence 58 = .ok (.getfield 80, 3) := by decide +kernel
theorem dX0_silence_61 : decode cX0_silence 61 = .ok (.iload_n 2, 1) := by decide +kernel
theorem dX0_silence_62 : decode cX0_silence 62 = .ok (.iastore, 1) := by decide +kernel
theorem dX0_silence_63 : decode cX0_silence 63 = .ok (.aload_n 0, 1) := by decide +kernel
theorem dX0_silence_64 : decode cX0_silence 64 = .ok (.getfield 30, 3) := by decide +kernel
theorem dX0_silence_67 : decode cX0_silence 67 = .ok (.aload_n 0, 1) := by decide +kernel
theorem dX0_silence_68 : decode cX0_silence 68 = .ok (.getfield 80, 3) := by decide +kernel
theorem dX0_silence_71 : decode cX0_silence 71 = .ok (.iload_n 3, 1) := by decide +kernel
theorem dX0_silence_72 : decode cX0_silence 72 = .ok (.iastore, 1) := by decide +kernel
theorem dX0_silence_73 : decode cX0_silence 73 = .ok (.aload_n 0, 1) := by decide +kernel
theorem dX0_silence_74 : decode cX0_silence 74 = .ok (.dup, 1) := by decide +kernel
theorem dX0_silence_75 : decode cX0_silence 75 = .ok (.getfield 80, 3) := by decide +kernel
theorem dX0_silence_78 : decode cX0_silence 78 = .ok (.iconst 1, 1) := by decide +kernel
theorem dX0_silence_79 : decode cX0_silence 79 = .ok (.iadd, 1) := by decide +kernel
theorem dX0_silence_80 : decode cX0_silence 80 = .ok (.putfield 80, 3) := by decide +kernel
theorem dX0_silence_83 : decode cX0_silence 83 = .ok (.aload_n 0, 1) := by decide +kernel
theorem dX0_silence_84 : decode cX0_silence 84 = .ok (.getfield 80, 3) := by decide +kernel
theorem dX0_silence_87 : decode cX0_silence 87 = .ok (.ireturn, 1) := by decide +kernel
theorem dX0_alarm_0 : decode cX0_alarm 0 = .ok (.iload_n 1, 1) := by decide +kernel
theorem dX0_alarm_1 : decode cX0_alarm 1 = .ok (.iconst 0, 1) := by decide +kernel
theorem dX0_alarm_2 : decode cX0_alarm 2 = .ok (.bipush 9, 2) := by decide +kernel
theorem dX0_alarm_4 : decode cX0_alarm 4 = .ok (.invokestatic 60, 3) := by decide +kernel
theorem dX0_alarm_7 : decode cX0_alarm 7 = .ok (.ifCond .eq 35, 3) := by decide +kernel
theorem dX0_alarm_10 : decode cX0_alarm 10 = .ok (.iload_n 2, 1) := by decide +kernel
theorem dX0_alarm_11 : decode cX0_alarm 11 = .ok (.iconst 0, 1) := by decide +kernel
theorem dX0_alarm_12 : decode cX0_alarm 12 = .ok (.bipush 39, 2) := by decide +kernel
theorem dX0_alarm_14 : decode cX0_alarm 14 = .ok (.invokestatic 60, 3) := by decide +kernel
theorem dX0_alarm_17 : decode cX0_alarm 17 = .ok (.ifCond .eq 25, 3) := by decide +kernel
theorem dX0_alarm_20 : decode cX0_alarm 20 = .ok (.iload_n 3, 1) := by decide +kernel
theorem dX0_alarm_21 : decode cX0_alarm 21 = .ok (.iconst 0, 1) := by decide +kernel
theorem dX0_alarm_22 : decode cX0_alarm 22 = .ok (.sipush 4095, 3) := by decide +kernel
theorem dX0_alarm_25 : decode cX0_alarm 25 = .ok (.invokestatic 60, 3) := by decide +kernel
theorem dX0_alarm_28 : decode cX0_alarm 28 = .ok (.ifCond .eq 14, 3) := by decide +kernel
theorem dX0_alarm_31 : decode cX0_alarm 31 = .ok (.iload 4, 2) := by decide +kernel
theorem dX0_alarm_33 : decode cX0_alarm 33 = .ok (.iconst 1, 1) := by decide +kernel
theorem dX0_alarm_34 : decode cX0_alarm 34 = .ok (.bipush 100, 2) := by decide +kernel
theorem dX0_alarm_36 : decode cX0_alarm 36 = .ok (.invokestatic 60, 3) := by decide +kernel
theorem dX0_alarm_39 : decode cX0_alarm 39 = .ok (.ifCond .ne 6, 3) := by decide +kernel
theorem dX0_alarm_42 : decode cX0_alarm 42 = .ok (.bipush (-2), 2) := by decide +kernel
theorem dX0_alarm_44 : decode cX0_alarm 44 = .ok (.ireturn, 1) := by decide +kernel
theorem dX0_alarm_45 : decode cX0_alarm 45 = .ok (.aload_n 0, 1) := by decide +kernel
theorem dX0_alarm_46 : decode cX0_alarm 46 = .ok (.getfield 19, 3) := by decide +kernel
theorem dX0_alarm_49 : decode cX0_alarm 49 = .ok (.invokevirtual 70, 3) := by decide +kernel
theorem dX0_alarm_52 : decode cX0_alarm 52 = .ok (.iconst 1, 1) := by decide +kernel
theorem dX0_alarm_53 : decode cX0_alarm 53 = .ok (.isub, 1) := by decide +kernel
theorem dX0_alarm_54 : decode cX0_alarm 54 = .ok (.istore 5, 2) := by decide +kernel
theorem dX0_alarm_56 : decode cX0_alarm 56 = .ok (.iload 5, 2) := by decide +kernel
theorem dX0_alarm_58 : decode cX0_alarm 58 = .ok (.ifCond .lt 83, 3) := by decide +kernel
theorem dX0_alarm_61 : decode cX0_alarm 61 = .ok (.aload_n 0, 1) := by decide +kernel
theorem dX0_alarm_62 : decode cX0_alarm 62 = .ok (.getfield 19, 3) := by decide +kernel
theorem dX0_alarm_65 : decode cX0_alarm 65 = .ok (.iload 5, 2) := by decide +kernel
theorem dX0_alarm_67 : decode cX0_alarm 67 = .ok (.invokevirtual 74, 3) := by decide +kernel
theorem dX0_alarm_70 : decode cX0_alarm 70 = .ok (.checkcast 78, 3) := by decide +kernel
theorem dX0_alarm_73 : decode cX0_alarm 73 = .ok (.astore 6, 2) := by decide +kernel
theorem dX0_alarm_75 : decode cX0_alarm 75 = .ok (.aload 6, 2) := by decide +kernel
theorem dX0_alarm_77 : decode cX0_alarm 77 = .ok (.iload_n 1, 1) := by decide +kernel
theorem dX0_alarm_78 : decode cX0_alarm 78 = .ok (.iload_n 2, 1) := by decide +kernel
theorem dX0_alarm_79 : decode cX0_alarm 79 = .ok (.iload_n 3, 1) := by decide +kernel
theorem dX0_alarm_80 : decode cX0_alarm 80 = .ok (.invokevirtual 93, 3) := by decide +kernel
theorem dX0_alarm_83 : decode cX0_alarm 83 = .ok (.ifCond .eq 52, 3) := by decide +kernel
theorem dX0_alarm_86 : decode cX0_alarm 86 = .ok (.aload 6, 2) := by decide +kernel
theorem dX0_alarm_88 : decode cX0_alarm 88 = .ok (.invokevirtual 96, 3) := by decide +kernel
theorem dX0_alarm_91 : decode cX0_alarm 91 = .ok (.ifCond .eq 44, 3) := by decide +kernel
theorem dX0_alarm_94 : decode cX0_alarm 94 = .ok (.aload 6, 2) := by decide +kernel
theorem dX0_alarm_96 : decode cX0_alarm 96 = .ok (.getfield 99, 3) := by decide +kernel
theorem dX0_alarm_99 : decode cX0_alarm 99 = .ok (.aload_n 0, 1) := by decide +kernel
theorem dX0_alarm_100 : decode cX0_alarm 100 = .ok (.getfield 64, 3) := by decide +kernel
theorem dX0_alarm_103 : decode cX0_alarm 103 = .ok (.bipush 10, 2) := by decide +kernel
theorem dX0_alarm_105 : decode cX0_alarm 105 = .ok (.isub, 1) := by decide +kernel
theorem dX0_alarm_106 : decode cX0_alarm 106 = .ok (.if_icmp .ge 6, 3) := by decide +kernel
theorem dX0_alarm_109 : decode cX0_alarm 109 = .ok (.goto 26, 3) := by decide +kernel
theorem dX0_alarm_112 : decode cX0_alarm 112 = .ok (.aload 6, 2) := by decide +kernel
theorem dX0_alarm_114 : decode cX0_alarm 114 = .ok (.dup, 1) := by decide +kernel
theorem dX0_alarm_115 : decode cX0_alarm 115 = .ok (.getfield 102, 3) := by decide +kernel
theorem dX0_alarm_118 : decode cX0_alarm 118 = .ok (.iconst 1, 1) := by decide +kernel
theorem dX0_alarm_119 : decode cX0_alarm 119 = .ok (.iadd, 1) := by decide +kernel
theorem dX0_alarm_120 : decode cX0_alarm 120 = .ok (.putfield 102, 3) := by decide +kernel
theorem dX0_alarm_123 : decode cX0_alarm 123 = .ok (.aload 6, 2) := by decide +kernel
theorem dX0_alarm_125 : decode cX0_alarm 125 = .ok (.aload_n 0, 1) := by decide +kernel
theorem dX0_alarm_126 : decode cX0_alarm 126 = .ok (.getfield 64, 3) := by decide +kernel
theorem dX0_alarm_129 : decode cX0_alarm 129 = .ok (.putfield 99, 3) := by decide +kernel
theorem dX0_alarm_132 : decode cX0_alarm 132 = .ok (.iload 5, 2) := by decide +kernel
theorem dX0_alarm_134 : decode cX0_alarm 134 = .ok (.ireturn, 1) := by decide +kernel
theorem dX0_alarm_135 : decode cX0_alarm 135 = .ok (.iinc 5 (-1), 3) := by decide +kernel
theorem dX0_alarm_138 : decode cX0_alarm 138 = .ok (.goto (-82), 3) := by decide +kernel
theorem dX0_alarm_141 : decode cX0_alarm 141 = .ok (.aload_n 0, 1) := by decide +kernel
theorem dX0_alarm_142 : decode cX0_alarm 142 = .ok (.getfield 19, 3) := by decide +kernel
theorem dX0_alarm_145 : decode cX0_alarm 145 = .ok (.invokevirtual 70, 3) := by decide +kernel
theorem dX0_alarm_148 : decode cX0_alarm 148 = .ok (.sipush 200, 3) := by decide +kernel
theorem dX0_alarm_151 : decode cX0_alarm 151 = .ok (.if_icmp .ne 6, 3) := by decide +kernel
theorem dX0_alarm_154 : decode cX0_alarm 154 = .ok (.bipush (-3), 2) := by decide +kernel
theorem dX0_alarm_156 : decode cX0_alarm 156 = .ok (.ireturn, 1) := by decide +kernel
theorem dX0_alarm_157 : decode cX0_alarm 157 = .ok (.aload_n 0, 1) := by decide +kernel
theorem dX0_alarm_158 : decode cX0_alarm 158 = .ok (.iload_n 1, 1) := by decide +kernel
theorem dX0_alarm_159 : decode cX0_alarm 159 = .ok (.invokevirtual 105, 3) := by decide +kernel
theorem dX0_alarm_162 : decode cX0_alarm 162 = .ok (.istore 5, 2) := by decide +kernel
theorem dX0_alarm_164 : decode cX0_alarm 164 = .ok (.aload_n 0, 1) := by decide +kernel
theorem dX0_alarm_165 : decode cX0_alarm 165 = .ok (.getfield 19, 3) := by decide +kernel
theorem dX0_alarm_168 : decode cX0_alarm 168 = .ok (.new 78, 3) := by decide +kernel
theorem dX0_alarm_171 : decode cX0_alarm 171 = .ok (.dup, 1) := by decide +kernel
theorem dX0_alarm_172 : decode cX0_alarm 172 = .ok (.aload_n 0, 1) := by decide +kernel
theorem dX0_alarm_173 : decode cX0_alarm 173 = .ok (.getfield 19, 3) := by decide +kernel
theorem dX0_alarm_176 : decode cX0_alarm 176 = .ok (.invokevirtual 70, 3) := by decide +kernel
theorem dX0_alarm_179 : decode cX0_alarm 179 = .ok (.aload_n 0, 1) := by decide +kernel
theorem dX0_alarm_180 : decode cX0_alarm 180 = .ok (.getfield 64, 3) := by decide +kernel
theorem dX0_alarm_183 : decode cX0_alarm 183 = .ok (.iload_n 1, 1) := by decide +kernel
theorem dX0_alarm_184 : decode cX0_alarm 184 = .ok (.iload_n 2, 1) := by decide +kernel
theorem dX0_alarm_185 : decode cX0_alarm 185 = .ok (.iload_n 3, 1) := by decide +kernel
theorem dX0_alarm_186 : decode cX0_alarm 186 = .ok (.iload 4, 2) := by decide +kernel
theorem dX0_alarm_188 : decode cX0_alarm 188 = .ok (.iload 5, 2) := by decide +kernel
theorem dX0_alarm_190 : decode cX0_alarm 190 = .ok (.iload 5, 2) := by decide +kernel
theorem dX0_alarm_192 : decode cX0_alarm 192 = .ok (.ifCond .ne 15, 3) := by decide +kernel
theorem dX0_alarm_195 : decode cX0_alarm 195 = .ok (.aload_n 0, 1) := by decide +kernel
theorem dX0_alarm_196 : decode cX0_alarm 196 = .ok (.iload_n 1, 1) := by decide +kernel
theorem dX0_alarm_197 : decode cX0_alarm 197 = .ok (.invokevirtual 109, 3) := by decide +kernel
theorem dX0_alarm_200 : decode cX0_alarm 200 = .ok (.ifCond .eq 7, 3) := by decide +kernel
theorem dX0_alarm_203 : decode cX0_alarm 203 = .ok (.iconst 1, 1) := by decide +kernel
theorem dX0_alarm_204 : decode cX0_alarm 204 = .ok (.goto 4, 3) := by decide +kernel
theorem dX0_alarm_207 : decode cX0_alarm 207 = .ok (.iconst 0, 1) := by decide +kernel
theorem dX0_alarm_208 : decode cX0_alarm 208 = .ok (.invokespecial 112, 3) := by decide +kernel
theorem dX0_alarm_211 : decode cX0_alarm 211 = .ok (.invokevirtual 115, 3) := by decide +kernel
theorem dX0_alarm_214 : decode cX0_alarm 214 = .ok (.pop, 1) := by decide +kernel
theorem dX0_alarm_215 : decode cX0_alarm 215 = .ok (.aload_n 0, 1) := by decide +kernel
theorem dX0_alarm_216 : decode cX0_alarm 216 = .ok (.getfield 19, 3) := by decide +kernel
theorem dX0_alarm_219 : decode cX0_alarm 219 = .ok (.invokevirtual 70, 3) := by decide +kernel
theorem dX0_alarm_222 : decode cX0_alarm 222 = .ok (.iconst 1, 1) := by decide +kernel
theorem dX0_alarm_223 : decode cX0_alarm 223 = .ok (.isub, 1) := by decide +kernel
theorem dX0_alarm_224 : decode cX0_alarm 224 = .ok (.ireturn, 1) := by decide +kernel
theorem dX0_isSilent_0 : decode cX0_isSilent 0 = .ok (.iconst 0, 1) := by decide +kernel
theorem dX0_isSilent_1 : decode cX0_isSilent 1 = .ok (.istore_n 2, 1) := by decide +kernel
theorem dX0_isSilent_2 : decode cX0_isSilent 2 = .ok (.iload_n 2, 1) := by decide +kernel
theorem dX0_isSilent_3 : decode cX0_isSilent 3 = .ok (.aload_n 0, 1) := by decide +kernel
theorem dX0_isSilent_4 : decode cX0_isSilent 4 = .ok (.getfield 80, 3) := by decide +kernel
theorem dX0_isSilent_7 : decode cX0_isSilent 7 = .ok (.if_icmp .ge 43, 3) := by decide +kernel
theorem dX0_isSilent_10 : decode cX0_isSilent 10 = .ok (.aload_n 0, 1) := by decide +kernel
theorem dX0_isSilent_11 : decode cX0_isSilent 11 = .ok (.getfield 23, 3) := by decide +kernel
theorem dX0_isSilent_14 : decode cX0_isSilent 14 = .ok (.iload_n 2, 1) := by decide +kernel
theorem dX0_isSilent_15 : decode cX0_isSilent 15 = .ok (.iaload, 1) := by decide +kernel
theorem dX0_isSilent_16 : decode cX0_isSilent 16 = .ok (.iload_n 1, 1) := by decide +kernel
theorem dX0_isSilent_17 : decode cX0_isSilent 17 = .ok (.if_icmp .ne 27, 3) := by decide +kernel
theorem dX0_isSilent_20 : decode cX0_isSilent 20 = .ok (.aload_n 0, 1) := by decide +kernel
theorem dX0_isSilent_21 : decode cX0_isSilent 21 = .ok (.getfield 64, 3) := by decide +kernel
theorem dX0_isSilent_24 : decode cX0_isSilent 24 = .ok (.aload_n 0, 1) := by decide +kernel
theorem dX0_isSilent_25 : decode cX0_isSilent 25 = .ok (.getfield 27, 3) := by decide +kernel
theorem dX0_isSilent_28 : decode cX0_isSilent 28 = .ok (.iload_n 2, 1) := by decide +kernel
theorem dX0_isSilent_29 : decode cX0_isSilent 29 = .ok (.iaload, 1) := by decide +kernel
theorem dX0_isSilent_30 : decode cX0_isSilent 30 = .ok (.aload_n 0, 1) := by decide +kernel
theorem dX0_isSilent_31 : decode cX0_isSilent 31 = .ok (.getfield 30, 3) := by decide +kernel
theorem dX0_isSilent_34 : decode cX0_isSilent 34 = .ok (.iload_n 2, 1) := by decide +kernel
theorem dX0_isSilent_35 : decode cX0_isSilent 35 = .ok (.iaload, 1) := by decide +kernel
theorem dX0_isSilent_36 : decode cX0_isSilent 36 = .ok (.invokestatic 60, 3) := by decide +kernel
theorem dX0_isSilent_39 : decode cX0_isSilent 39 = .ok (.ifCond .eq 5, 3) := by decide +kernel
theorem dX0_isSilent_42 : decode cX0_isSilent 42 = .ok (.iconst 1, 1) := by decide +kernel
theorem dX0_isSilent_43 : decode cX0_isSilent 43 = .ok (.ireturn, 1) := by decide +kernel
theorem dX0_isSilent_44 : decode cX0_isSilent 44 = .ok (.iinc 2 1, 3) := by decide +kernel
theorem dX0_isSilent_47 : decode cX0_isSilent 47 = .ok (.goto (-45), 3) := by decide +kernel
theorem dX0_isSilent_50 : decode cX0_isSilent 50 = .ok (.iconst 0, 1) := by decide +kernel
theorem dX0_isSilent_51 : decode cX0_isSilent 51 = .ok (.ireturn, 1) := by decide +kernel
theorem dX0_isOverCap_0 : decode cX0_isOverCap 0 = .ok (.iconst 0, 1) := by decide +kernel
theorem dX0_isOverCap_1 : decode cX0_isOverCap 1 = .ok (.istore_n 2, 1) := by decide +kernel
theorem dX0_isOverCap_2 : decode cX0_isOverCap 2 = .ok (.iconst 0, 1) := by decide +kernel
theorem dX0_isOverCap_3 : decode cX0_isOverCap 3 = .ok (.istore_n 3, 1) := by decide +kernel
theorem dX0_isOverCap_4 : decode cX0_isOverCap 4 = .ok (.iload_n 3, 1) := by decide +kernel
theorem dX0_isOverCap_5 : decode cX0_isOverCap 5 = .ok (.aload_n 0, 1) := by decide +kernel
theorem dX0_isOverCap_6 : decode cX0_isOverCap 6 = .ok (.getfield 19, 3) := by decide +kernel
theorem dX0_isOverCap_9 : decode cX0_isOverCap 9 = .ok (.invokevirtual 70, 3) := by decide +kernel
theorem dX0_isOverCap_12 : decode cX0_isOverCap 12 = .ok (.if_icmp .ge 76, 3) := by decide +kernel
theorem dX0_isOverCap_15 : decode cX0_isOverCap 15 = .ok (.iload_n 2, 1) := by decide +kernel
theorem dX0_isOverCap_16 : decode cX0_isOverCap 16 = .ok (.aload_n 0, 1) := by decide +kernel
theorem dX0_isOverCap_17 : decode cX0_isOverCap 17 = .ok (.getfield 19, 3) := by decide +kernel
theorem dX0_isOverCap_20 : decode cX0_isOverCap 20 = .ok (.iload_n 3, 1) := by decide +kernel
theorem dX0_isOverCap_21 : decode cX0_isOverCap 21 = .ok (.invokevirtual 74, 3) := by decide +kernel
theorem dX0_isOverCap_24 : decode cX0_isOverCap 24 = .ok (.checkcast 78, 3) := by decide +kernel
theorem dX0_isOverCap_27 : decode cX0_isOverCap 27 = .ok (.getfield 83, 3) := by decide +kernel
theorem dX0_isOverCap_30 : decode cX0_isOverCap 30 = .ok (.iload_n 1, 1) := by decide +kernel
theorem dX0_isOverCap_31 : decode cX0_isOverCap 31 = .ok (.if_icmp .ne 48, 3) := by decide +kernel
theorem dX0_isOverCap_34 : decode cX0_isOverCap 34 = .ok (.aload_n 0, 1) := by decide +kernel
theorem dX0_isOverCap_35 : decode cX0_isOverCap 35 = .ok (.getfield 19, 3) := by decide +kernel
theorem dX0_isOverCap_38 : decode cX0_isOverCap 38 = .ok (.iload_n 3, 1) := by decide +kernel
theorem dX0_isOverCap_39 : decode cX0_isOverCap 39 = .ok (.invokevirtual 74, 3) := by decide +kernel
theorem dX0_isOverCap_42 : decode cX0_isOverCap 42 = .ok (.checkcast 78, 3) := by decide +kernel
theorem dX0_isOverCap_45 : decode cX0_isOverCap 45 = .ok (.invokevirtual 86, 3) := by decide +kernel
theorem dX0_isOverCap_48 : decode cX0_isOverCap 48 = .ok (.ifCond .eq 31, 3) := by decide +kernel
theorem dX0_isOverCap_51 : decode cX0_isOverCap 51 = .ok (.aload_n 0, 1) := by decide +kernel
theorem dX0_isOverCap_52 : decode cX0_isOverCap 52 = .ok (.getfield 19, 3) := by decide +kernel
theorem dX0_isOverCap_55 : decode cX0_isOverCap 55 = .ok (.iload_n 3, 1) := by decide +kernel
theorem dX0_isOverCap_56 : decode cX0_isOverCap 56 = .ok (.invokevirtual 74, 3) := by decide +kernel
theorem dX0_isOverCap_59 : decode cX0_isOverCap 59 = .ok (.checkcast 78, 3) := by decide +kernel
theorem dX0_isOverCap_62 : decode cX0_isOverCap 62 = .ok (.getfield 90, 3) := by decide +kernel
theorem dX0_isOverCap_65 : decode cX0_isOverCap 65 = .ok (.aload_n 0, 1) := by decide +kernel
theorem dX0_isOverCap_66 : decode cX0_isOverCap 66 = .ok (.getfield 64, 3) := by decide +kernel
theorem dX0_isOverCap_69 : decode cX0_isOverCap 69 = .ok (.bipush 10, 2) := by decide +kernel
theorem dX0_isOverCap_71 : decode cX0_isOverCap 71 = .ok (.isub, 1) := by decide +kernel
theorem dX0_isOverCap_72 : decode cX0_isOverCap 72 = .ok (.if_icmp .le 7, 3) := by decide +kernel
theorem dX0_isOverCap_75 : decode cX0_isOverCap 75 = .ok (.iconst 1, 1) := by decide +kernel
theorem dX0_isOverCap_76 : decode cX0_isOverCap 76 = .ok (.goto 4, 3) := by decide +kernel
theorem dX0_isOverCap_79 : decode cX0_isOverCap 79 = .ok (.iconst 0, 1) := by decide +kernel
theorem dX0_isOverCap_80 : decode cX0_isOverCap 80 = .ok (.iadd, 1) := by decide +kernel
theorem dX0_isOverCap_81 : decode cX0_isOverCap 81 = .ok (.istore_n 2, 1) := by decide +kernel
theorem dX0_isOverCap_82 : decode cX0_isOverCap 82 = .ok (.iinc 3 1, 3) := by decide +kernel
theorem dX0_isOverCap_85 : decode cX0_isOverCap 85 = .ok (.goto (-81), 3) := by decide +kernel
theorem dX0_isOverCap_88 : decode cX0_isOverCap 88 = .ok (.iload_n 2, 1) := by decide +kernel
theorem dX0_isOverCap_89 : decode cX0_isOverCap 89 = .ok (.aload_n 0, 1) := by decide +kernel
theorem dX0_isOverCap_90 : decode cX0_isOverCap 90 = .ok (.getfield 7, 3) := by decide +kernel
theorem dX0_isOverCap_93 : decode cX0_isOverCap 93 = .ok (.if_icmp .lt 7, 3) := by decide +kernel
theorem dX0_isOverCap_96 : decode cX0_isOverCap 96 = .ok (.iconst 1, 1) := by decide +kernel
theorem dX0_isOverCap_97 : decode cX0_isOverCap 97 = .ok (.goto 4, 3) := by decide +kernel
theorem dX0_isOverCap_100 : decode cX0_isOverCap 100 = .ok (.iconst 0, 1) := by decide +kernel
theorem dX0_isOverCap_101 : decode cX0_isOverCap 101 = .ok (.ireturn, 1) := by decide +kernel
theorem dX0_verdict_0 : decode cX0_verdict 0 = .ok (.aload_n 0, 1) := by decide +kernel
theorem dX0_verdict_1 : decode cX0_verdict 1 = .ok (.iload_n 1, 1) := by decide +kernel
theorem dX0_verdict_2 : decode cX0_verdict 2 = .ok (.invokevirtual 119, 3) := by decide +kernel
theorem dX0_verdict_5 : decode cX0_verdict 5 = .ok (.astore 4, 2) := by decide +kernel
theorem dX0_verdict_7 : decode cX0_verdict 7 = .ok (.aload 4, 2) := by decide +kernel
theorem dX0_verdict_9 : decode cX0_verdict 9 = .ok (.ifnull 21, 3) := by decide +kernel
theorem dX0_verdict_12 : decode cX0_verdict 12 = .ok (.iload_n 2, 1) := by decide +kernel
theorem dX0_verdict_13 : decode cX0_verdict 13 = .ok (.iconst 0, 1) := by decide +kernel
theorem dX0_verdict_14 : decode cX0_verdict 14 = .ok (.bipush 9, 2) := by decide +kernel
theorem dX0_verdict_16 : decode cX0_verdict 16 = .ok (.invokestatic 60, 3) := by decide +kernel
theorem dX0_verdict_19 : decode cX0_verdict 19 = .ok (.ifCond .eq 11, 3) := by decide +kernel
theorem dX0_verdict_22 : decode cX0_verdict 22 = .ok (.aload 4, 2) := by decide +kernel
theorem dX0_verdict_24 : decode cX0_verdict 24 = .ok (.getfield 123, 3) := by decide +kernel
theorem dX0_verdict_27 : decode cX0_verdict 27 = .ok (.ifCond .eq 5, 3) := by decide +kernel
theorem dX0_verdict_30 : decode cX0_verdict 30 = .ok (.iconst (-1), 1) := by decide +kernel
theorem dX0_verdict_31 : decode cX0_verdict 31 = .ok (.ireturn, 1) := by decide +kernel
theorem dX0_verdict_32 : decode cX0_verdict 32 = .ok (.iconst 1, 1) := by decide +kernel
theorem dX0_verdict_33 : decode cX0_verdict 33 = .ok (.istore 5, 2) := by decide +kernel
theorem dX0_verdict_35 : decode cX0_verdict 35 = .ok (.iconst 0, 1) := by decide +kernel
theorem dX0_verdict_36 : decode cX0_verdict 36 = .ok (.istore 6, 2) := by decide +kernel
theorem dX0_verdict_38 : decode cX0_verdict 38 = .ok (.iload 6, 2) := by decide +kernel
theorem dX0_verdict_40 : decode cX0_verdict 40 = .ok (.aload 4, 2) := by decide +kernel
theorem dX0_verdict_42 : decode cX0_verdict 42 = .ok (.getfield 126, 3) := by decide +kernel
theorem dX0_verdict_45 : decode cX0_verdict 45 = .ok (.invokevirtual 70, 3) := by decide +kernel
theorem dX0_verdict_48 : decode cX0_verdict 48 = .ok (.if_icmp .ge 61, 3) := by decide +kernel
theorem dX0_verdict_51 : decode cX0_verdict 51 = .ok (.aload 4, 2) := by decide +kernel
theorem dX0_verdict_53 : decode cX0_verdict 53 = .ok (.getfield 126, 3) := by decide +kernel
theorem dX0_verdict_56 : decode cX0_verdict 56 = .ok (.iload 6, 2) := by decide +kernel
theorem dX0_verdict_58 : decode cX0_verdict 58 = .ok (.invokevirtual 74, 3) := by decide +kernel
theorem dX0_verdict_61 : decode cX0_verdict 61 = .ok (.checkcast 129, 3) := by decide +kernel
theorem dX0_verdict_64 : decode cX0_verdict 64 = .ok (.getfield 131, 3) := by decide +kernel
theorem dX0_verdict_67 : decode cX0_verdict 67 = .ok (.iload_n 2, 1) := by decide +kernel
theorem dX0_verdict_68 : decode cX0_verdict 68 = .ok (.if_icmp .ne 5, 3) := by decide +kernel
theorem dX0_verdict_71 : decode cX0_verdict 71 = .ok (.iconst (-1), 1) := by decide +kernel
theorem dX0_verdict_72 : decode cX0_verdict 72 = .ok (.ireturn, 1) := by decide +kernel
theorem dX0_verdict_73 : decode cX0_verdict 73 = .ok (.iload 5, 2) := by decide +kernel
theorem dX0_verdict_75 : decode cX0_verdict 75 = .ok (.aload 4, 2) := by decide +kernel
theorem dX0_verdict_77 : decode cX0_verdict 77 = .ok (.getfield 126, 3) := by decide +kernel
theorem dX0_verdict_80 : decode cX0_verdict 80 = .ok (.iload 6, 2) := by decide +kernel
theorem dX0_verdict_82 : decode cX0_verdict 82 = .ok (.invokevirtual 74, 3) := by decide +kernel
theorem dX0_verdict_85 : decode cX0_verdict 85 = .ok (.checkcast 129, 3) := by decide +kernel
theorem dX0_verdict_88 : decode cX0_verdict 88 = .ok (.getfield 134, 3) := by decide +kernel
theorem dX0_verdict_91 : decode cX0_verdict 91 = .ok (.iload_n 3, 1) := by decide +kernel
theorem dX0_verdict_92 : decode cX0_verdict 92 = .ok (.if_icmp .ne 7, 3) := by decide +kernel
theorem dX0_verdict_95 : decode cX0_verdict 95 = .ok (.iconst 1, 1) := by decide +kernel
theorem dX0_verdict_96 : decode cX0_verdict 96 = .ok (.goto 4, 3) := by decide +kernel
theorem dX0_verdict_99 : decode cX0_verdict 99 = .ok (.iconst 0, 1) := by decide +kernel
theorem dX0_verdict_100 : decode cX0_verdict 100 = .ok (.iadd, 1) := by decide +kernel
theorem dX0_verdict_101 : decode cX0_verdict 101 = .ok (.istore 5, 2) := by decide +kernel
theorem dX0_verdict_103 : decode cX0_verdict 103 = .ok (.iinc 6 1, 3) := by decide +kernel
theorem dX0_verdict_106 : decode cX0_verdict 106 = .ok (.goto (-68), 3) := by decide +kernel
theorem dX0_verdict_109 : decode cX0_verdict 109 = .ok (.aload 4, 2) := by decide +kernel
theorem dX0_verdict_111 : decode cX0_verdict 111 = .ok (.getfield 126, 3) := by decide +kernel
theorem dX0_verdict_114 : decode cX0_verdict 114 = .ok (.new 129, 3) := by decide +kernel
theorem dX0_verdict_117 : decode cX0_verdict 117 = .ok (.dup, 1) := by decide +kernel
theorem dX0_verdict_118 : decode cX0_verdict 118 = .ok (.iload_n 2, 1) := by decide +kernel
theorem dX0_verdict_119 : decode cX0_verdict 119 = .ok (.iload_n 3, 1) := by decide +kernel
theorem dX0_verdict_120 : decode cX0_verdict 120 = .ok (.invokespecial 138, 3) := by decide +kernel
theorem dX0_verdict_123 : decode cX0_verdict 123 = .ok (.invokevirtual 115, 3) := by decide +kernel
theorem dX0_verdict_126 : decode cX0_verdict 126 = .ok (.pop, 1) := by decide +kernel
theorem dX0_verdict_127 : decode cX0_verdict 127 = .ok (.iload 5, 2) := by decide +kernel
theorem dX0_verdict_129 : decode cX0_verdict 129 = .ok (.iconst 2, 1) := by decide +kernel
theorem dX0_verdict_130 : decode cX0_verdict 130 = .ok (.if_icmp .ge 5, 3) := by decide +kernel
theorem dX0_verdict_133 : decode cX0_verdict 133 = .ok (.iconst 0, 1) := by decide +kernel
theorem dX0_verdict_134 : decode cX0_verdict 134 = .ok (.ireturn, 1) := by decide +kernel
theorem dX0_verdict_135 : decode cX0_verdict 135 = .ok (.aload 4, 2) := by decide +kernel
theorem dX0_verdict_137 : decode cX0_verdict 137 = .ok (.iload_n 3, 1) := by decide +kernel
theorem dX0_verdict_138 : decode cX0_verdict 138 = .ok (.ifCond .eq 7, 3) := by decide +kernel
theorem dX0_verdict_141 : decode cX0_verdict 141 = .ok (.iconst 1, 1) := by decide +kernel
theorem dX0_verdict_142 : decode cX0_verdict 142 = .ok (.goto 4, 3) := by decide +kernel
theorem dX0_verdict_145 : decode cX0_verdict 145 = .ok (.iconst 2, 1) := by decide +kernel
theorem dX0_verdict_146 : decode cX0_verdict 146 = .ok (.putfield 123, 3) := by decide +kernel
theorem dX0_verdict_149 : decode cX0_verdict 149 = .ok (.iconst 1, 1) := by decide +kernel
theorem dX0_verdict_150 : decode cX0_verdict 150 = .ok (.ireturn, 1) := by decide +kernel
theorem dX0_at_0 : decode cX0_at 0 = .ok (.iload_n 1, 1) := by decide +kernel
theorem dX0_at_1 : decode cX0_at 1 = .ok (.iconst 0, 1) := by decide +kernel
theorem dX0_at_2 : decode cX0_at 2 = .ok (.aload_n 0, 1) := by decide +kernel
theorem dX0_at_3 : decode cX0_at 3 = .ok (.getfield 19, 3) := by decide +kernel
theorem dX0_at_6 : decode cX0_at 6 = .ok (.invokevirtual 70, 3) := by decide +kernel
theorem dX0_at_9 : decode cX0_at 9 = .ok (.iconst 1, 1) := by decide +kernel
theorem dX0_at_10 : decode cX0_at 10 = .ok (.isub, 1) := by decide +kernel
theorem dX0_at_11 : decode cX0_at 11 = .ok (.invokestatic 60, 3) := by decide +kernel
theorem dX0_at_14 : decode cX0_at 14 = .ok (.ifCond .eq 17, 3) := by decide +kernel
theorem dX0_at_17 : decode cX0_at 17 = .ok (.aload_n 0, 1) := by decide +kernel
theorem dX0_at_18 : decode cX0_at 18 = .ok (.getfield 19, 3) := by decide +kernel
theorem dX0_at_21 : decode cX0_at 21 = .ok (.iload_n 1, 1) := by decide +kernel
theorem dX0_at_22 : decode cX0_at 22 = .ok (.invokevirtual 74, 3) := by decide +kernel
theorem dX0_at_25 : decode cX0_at 25 = .ok (.checkcast 78, 3) := by decide +kernel
theorem dX0_at_28 : decode cX0_at 28 = .ok (.goto 4, 3) := by decide +kernel
theorem dX0_at_31 : decode cX0_at 31 = .ok (.aconst_null, 1) := by decide +kernel
theorem dX0_at_32 : decode cX0_at 32 = .ok (.areturn, 1) := by decide +kernel
theorem dX0_node_0 : decode cX0_node 0 = .ok (.iload_n 1, 1) := by decide +kernel
theorem dX0_node_1 : decode cX0_node 1 = .ok (.iconst 0, 1) := by decide +kernel
theorem dX0_node_2 : decode cX0_node 2 = .ok (.iconst 4, 1) := by decide +kernel
theorem dX0_node_3 : decode cX0_node 3 = .ok (.invokestatic 60, 3) := by decide +kernel
theorem dX0_node_6 : decode cX0_node 6 = .ok (.ifCond .eq 33, 3) := by decide +kernel
theorem dX0_node_9 : decode cX0_node 9 = .ok (.iload_n 2, 1) := by decide +kernel
theorem dX0_node_10 : decode cX0_node 10 = .ok (.iconst 0, 1) := by decide +kernel
theorem dX0_node_11 : decode cX0_node 11 = .ok (.sipush 4095, 3) := by decide +kernel
theorem dX0_node_14 : decode cX0_node 14 = .ok (.invokestatic 60, 3) := by decide +kernel
theorem dX0_node_17 : decode cX0_node 17 = .ok (.ifCond .eq 22, 3) := by decide +kernel
theorem dX0_node_20 : decode cX0_node 20 = .ok (.iload_n 3, 1) := by decide +kernel
theorem dX0_node_21 : decode cX0_node 21 = .ok (.iconst 0, 1) := by decide +kernel
theorem dX0_node_22 : decode cX0_node 22 = .ok (.iconst 2, 1) := by decide +kernel
theorem dX0_node_23 : decode cX0_node 23 = .ok (.invokestatic 60, 3) := by decide +kernel
theorem dX0_node_26 : decode cX0_node 26 = .ok (.ifCond .eq 13, 3) := by decide +kernel
theorem dX0_node_29 : decode cX0_node 29 = .ok (.aload_n 0, 1) := by decide +kernel
theorem dX0_node_30 : decode cX0_node 30 = .ok (.iload_n 1, 1) := by decide +kernel
theorem dX0_node_31 : decode cX0_node 31 = .ok (.iload_n 2, 1) := by decide +kernel
theorem dX0_node_32 : decode cX0_node 32 = .ok (.iload_n 3, 1) := by decide +kernel
theorem dX0_node_33 : decode cX0_node 33 = .ok (.invokevirtual 145, 3) := by decide +kernel
theorem dX0_node_36 : decode cX0_node 36 = .ok (.goto 4, 3) := by decide +kernel
theorem dX0_node_39 : decode cX0_node 39 = .ok (.iconst (-1), 1) := by decide +kernel
theorem dX0_node_40 : decode cX0_node 40 = .ok (.ireturn, 1) := by decide +kernel
theorem dX0_countAt_0 : decode cX0_countAt 0 = .ok (.iconst 0, 1) := by decide +kernel
theorem dX0_countAt_1 : decode cX0_countAt 1 = .ok (.istore 4, 2) := by decide +kernel
theorem dX0_countAt_3 : decode cX0_countAt 3 = .ok (.iconst 0, 1) := by decide +kernel
theorem dX0_countAt_4 : decode cX0_countAt 4 = .ok (.istore 5, 2) := by decide +kernel
theorem dX0_countAt_6 : decode cX0_countAt 6 = .ok (.iload 5, 2) := by decide +kernel
theorem dX0_countAt_8 : decode cX0_countAt 8 = .ok (.aload_n 0, 1) := by decide +kernel
theorem dX0_countAt_9 : decode cX0_countAt 9 = .ok (.getfield 19, 3) := by decide +kernel
theorem dX0_countAt_12 : decode cX0_countAt 12 = .ok (.invokevirtual 70, 3) := by decide +kernel
theorem dX0_countAt_15 : decode cX0_countAt 15 = .ok (.if_icmp .ge 93, 3) := by decide +kernel
theorem dX0_countAt_18 : decode cX0_countAt 18 = .ok (.aload_n 0, 1) := by decide +kernel
theorem dX0_countAt_19 : decode cX0_countAt 19 = .ok (.getfield 19, 3) := by decide +kernel
theorem dX0_countAt_22 : decode cX0_countAt 22 = .ok (.iload 5, 2) := by decide +kernel
theorem dX0_countAt_24 : decode cX0_countAt 24 = .ok (.invokevirtual 74, 3) := by decide +kernel
theorem dX0_countAt_27 : decode cX0_countAt 27 = .ok (.checkcast 78, 3) := by decide +kernel
theorem dX0_countAt_30 : decode cX0_countAt 30 = .ok (.astore 6, 2) := by decide +kernel
theorem dX0_countAt_32 : decode cX0_countAt 32 = .ok (.aload 6, 2) := by decide +kernel
theorem dX0_countAt_34 : decode cX0_countAt 34 = .ok (.iload_n 1, 1) := by decide +kernel
theorem dX0_countAt_35 : decode cX0_countAt 35 = .ok (.iload_n 2, 1) := by decide +kernel
theorem dX0_countAt_36 : decode cX0_countAt 36 = .ok (.invokevirtual 141, 3) := by decide +kernel
theorem dX0_countAt_39 : decode cX0_countAt 39 = .ok (.ifCond .eq 63, 3) := by decide +kernel
theorem dX0_countAt_42 : decode cX0_countAt 42 = .ok (.iload 4, 2) := by decide +kernel
theorem dX0_countAt_44 : decode cX0_countAt 44 = .ok (.iload_n 3, 1) := by decide +kernel
theorem dX0_countAt_45 : decode cX0_countAt 45 = .ok (.ifCond .ne 20, 3) := by decide +kernel
theorem dX0_countAt_48 : decode cX0_countAt 48 = .ok (.aload 6, 2) := by decide +kernel
theorem dX0_countAt_50 : decode cX0_countAt 50 = .ok (.getfield 123, 3) := by decide +kernel
theorem dX0_countAt_53 : decode cX0_countAt 53 = .ok (.iconst 1, 1) := by decide +kernel
theorem dX0_countAt_54 : decode cX0_countAt 54 = .ok (.if_icmp .ne 7, 3) := by decide +kernel
theorem dX0_countAt_57 : decode cX0_countAt 57 = .ok (.iconst 1, 1) := by decide +kernel
theorem dX0_countAt_58 : decode cX0_countAt 58 = .ok (.goto 41, 3) := by decide +kernel
theorem dX0_countAt_61 : decode cX0_countAt 61 = .ok (.iconst 0, 1) := by decide +kernel
theorem dX0_countAt_62 : decode cX0_countAt 62 = .ok (.goto 37, 3) := by decide +kernel
theorem dX0_countAt_65 : decode cX0_countAt 65 = .ok (.iload_n 3, 1) := by decide +kernel
theorem dX0_countAt_66 : decode cX0_countAt 66 = .ok (.iconst 1, 1) := by decide +kernel
theorem dX0_countAt_67 : decode cX0_countAt 67 = .ok (.if_icmp .ne 19, 3) := by decide +kernel
theorem dX0_countAt_70 : decode cX0_countAt 70 = .ok (.aload 6, 2) := by decide +kernel
theorem dX0_countAt_72 : decode cX0_countAt 72 = .ok (.getfield 123, 3) := by decide +kernel
theorem dX0_countAt_75 : decode cX0_countAt 75 = .ok (.ifCond .eq 7, 3) := by decide +kernel
theorem dX0_countAt_78 : decode cX0_countAt 78 = .ok (.iconst 1, 1) := by decide +kernel
theorem dX0_countAt_79 : decode cX0_countAt 79 = .ok (.goto 20, 3) := by decide +kernel
theorem dX0_countAt_82 : decode cX0_countAt 82 = .ok (.iconst 0, 1) := by decide +kernel
theorem dX0_countAt_83 : decode cX0_countAt 83 = .ok (.goto 16, 3) := by decide +kernel
theorem dX0_countAt_86 : decode cX0_countAt 86 = .ok (.aload 6, 2) := by decide +kernel
theorem dX0_countAt_88 : decode cX0_countAt 88 = .ok (.getfield 123, 3) := by decide +kernel
theorem dX0_countAt_91 : decode cX0_countAt 91 = .ok (.ifCond .ne 7, 3) := by decide +kernel
theorem dX0_countAt_94 : decode cX0_countAt 94 = .ok (.iconst 1, 1) := by decide +kernel
theorem dX0_countAt_95 : decode cX0_countAt 95 = .ok (.goto 4, 3) := by decide +kernel
theorem dX0_countAt_98 : decode cX0_countAt 98 = .ok (.iconst 0, 1) := by decide +kernel
theorem dX0_countAt_99 : decode cX0_countAt 99 = .ok (.iadd, 1) := by decide +kernel
theorem dX0_countAt_100 : decode cX0_countAt 100 = .ok (.istore 4, 2) := by decide +kernel
theorem dX0_countAt_102 : decode cX0_countAt 102 = .ok (.iinc 5 1, 3) := by decide +kernel
theorem dX0_countAt_105 : decode cX0_countAt 105 = .ok (.goto (-99), 3) := by decide +kernel
theorem dX0_countAt_108 : decode cX0_countAt 108 = .ok (.iload 4, 2) := by decide +kernel
theorem dX0_countAt_110 : decode cX0_countAt 110 = .ok (.ireturn, 1) := by decide +kernel
theorem dX0_odds_0 : decode cX0_odds 0 = .ok (.aload_n 0, 1) := by decide +kernel
theorem dX0_odds_1 : decode cX0_odds 1 = .ok (.iload_n 1, 1) := by decide +kernel
theorem dX0_odds_2 : decode cX0_odds 2 = .ok (.invokevirtual 119, 3) := by decide +kernel
theorem dX0_odds_5 : decode cX0_odds 5 = .ok (.astore_n 3, 1) := by decide +kernel
theorem dX0_odds_6 : decode cX0_odds 6 = .ok (.aload_n 3, 1) := by decide +kernel
theorem dX0_odds_7 : decode cX0_odds 7 = .ok (.ifnull 12, 3) := by decide +kernel
theorem dX0_odds_10 : decode cX0_odds 10 = .ok (.iload_n 2, 1) := by decide +kernel
theorem dX0_odds_11 : decode cX0_odds 11 = .ok (.iconst 0, 1) := by decide +kernel
theorem dX0_odds_12 : decode cX0_odds 12 = .ok (.iconst 5, 1) := by decide +kernel
theorem dX0_odds_13 : decode cX0_odds 13 = .ok (.invokestatic 60, 3) := by decide +kernel
theorem dX0_odds_16 : decode cX0_odds 16 = .ok (.ifCond .ne 5, 3) := by decide +kernel
theorem dX0_odds_19 : decode cX0_odds 19 = .ok (.iconst (-1), 1) := by decide +kernel
theorem dX0_odds_20 : decode cX0_odds 20 = .ok (.ireturn, 1) := by decide +kernel
theorem dX0_odds_21 : decode cX0_odds 21 = .ok (.aload_n 0, 1) := by decide +kernel
theorem dX0_odds_22 : decode cX0_odds 22 = .ok (.aload_n 3, 1) := by decide +kernel
theorem dX0_odds_23 : decode cX0_odds 23 = .ok (.invokevirtual 152, 3) := by decide +kernel
theorem dX0_odds_26 : decode cX0_odds 26 = .ok (.istore 4, 2) := by decide +kernel
theorem dX0_odds_28 : decode cX0_odds 28 = .ok (.aload_n 0, 1) := by decide +kernel
theorem dX0_odds_29 : decode cX0_odds 29 = .ok (.iload 4, 2) := by decide +kernel
theorem dX0_odds_31 : decode cX0_odds 31 = .ok (.aload_n 3, 1) := by decide +kernel
theorem dX0_odds_32 : decode cX0_odds 32 = .ok (.getfield 149, 3) := by decide +kernel
theorem dX0_odds_35 : decode cX0_odds 35 = .ok (.iconst 0, 1) := by decide +kernel
theorem dX0_odds_36 : decode cX0_odds 36 = .ok (.invokevirtual 145, 3) := by decide +kernel
theorem dX0_odds_39 : decode cX0_odds 39 = .ok (.istore 5, 2) := by decide +kernel
theorem dX0_odds_41 : decode cX0_odds 41 = .ok (.aload_n 0, 1) := by decide +kernel
theorem dX0_odds_42 : decode cX0_odds 42 = .ok (.iload 4, 2) := by decide +kernel
theorem dX0_odds_44 : decode cX0_odds 44 = .ok (.aload_n 3, 1) := by decide +kernel
theorem dX0_odds_45 : decode cX0_odds 45 = .ok (.getfield 149, 3) := by decide +kernel
theorem dX0_odds_48 : decode cX0_odds 48 = .ok (.iconst 1, 1) := by decide +kernel
theorem dX0_odds_49 : decode cX0_odds 49 = .ok (.invokevirtual 145, 3) := by decide +kernel
theorem dX0_odds_52 : decode cX0_odds 52 = .ok (.istore 6, 2) := by decide +kernel
theorem dX0_odds_54 : decode cX0_odds 54 = .ok (.aload_n 0, 1) := by decide +kernel
theorem dX0_odds_55 : decode cX0_odds 55 = .ok (.iload 4, 2) := by decide +kernel
theorem dX0_odds_57 : decode cX0_odds 57 = .ok (.aload_n 3, 1) := by decide +kernel
theorem dX0_odds_58 : decode cX0_odds 58 = .ok (.getfield 149, 3) := by decide +kernel
theorem dX0_odds_61 : decode cX0_odds 61 = .ok (.iconst 2, 1) := by decide +kernel
theorem dX0_odds_62 : decode cX0_odds 62 = .ok (.invokevirtual 145, 3) := by decide +kernel
theorem dX0_odds_65 : decode cX0_odds 65 = .ok (.istore 7, 2) := by decide +kernel
theorem dX0_odds_67 : decode cX0_odds 67 = .ok (.iload_n 2, 1) := by decide +kernel
theorem dX0_odds_68 : decode cX0_odds 68 = .ok (.iconst 2, 1) := by decide +kernel
theorem dX0_odds_69 : decode cX0_odds 69 = .ok (.if_icmp .ge 17, 3) := by decide +kernel
theorem dX0_odds_72 : decode cX0_odds 72 = .ok (.iload 6, 2) := by decide +kernel
theorem dX0_odds_74 : decode cX0_odds 74 = .ok (.ifCond .ne 7, 3) := by decide +kernel
theorem dX0_odds_77 : decode cX0_odds 77 = .ok (.iconst 1, 1) := by decide +kernel
theorem dX0_odds_78 : decode cX0_odds 78 = .ok (.goto 23, 3) := by decide +kernel
theorem dX0_odds_81 : decode cX0_odds 81 = .ok (.iload 5, 2) := by decide +kernel
theorem dX0_odds_83 : decode cX0_odds 83 = .ok (.goto 18, 3) := by decide +kernel
theorem dX0_odds_86 : decode cX0_odds 86 = .ok (.iload_n 2, 1) := by decide +kernel
theorem dX0_odds_87 : decode cX0_odds 87 = .ok (.iconst 4, 1) := by decide +kernel
theorem dX0_odds_88 : decode cX0_odds 88 = .ok (.if_icmp .ge 8, 3) := by decide +kernel
theorem dX0_odds_91 : decode cX0_odds 91 = .ok (.iload 5, 2) := by decide +kernel
theorem dX0_odds_93 : decode cX0_odds 93 = .ok (.goto 8, 3) := by decide +kernel
theorem dX0_odds_96 : decode cX0_odds 96 = .ok (.iload 5, 2) := by decide +kernel
theorem dX0_odds_98 : decode cX0_odds 98 = .ok (.iload 7, 2) := by decide +kernel
theorem dX0_odds_100 : decode cX0_odds 100 = .ok (.iadd, 1) := by decide +kernel
theorem dX0_odds_101 : decode cX0_odds 101 = .ok (.istore 8, 2) := by decide +kernel
theorem dX0_odds_103 : decode cX0_odds 103 = .ok (.iload_n 2, 1) := by decide +kernel
theorem dX0_odds_104 : decode cX0_odds 104 = .ok (.iconst 2, 1) := by decide +kernel
theorem dX0_odds_105 : decode cX0_odds 105 = .ok (.if_icmp .ge 17, 3) := by decide +kernel
theorem dX0_odds_108 : decode cX0_odds 108 = .ok (.iload 6, 2) := by decide +kernel
theorem dX0_odds_110 : decode cX0_odds 110 = .ok (.ifCond .ne 7, 3) := by decide +kernel
theorem dX0_odds_113 : decode cX0_odds 113 = .ok (.iconst 2, 1) := by decide +kernel
theorem dX0_odds_114 : decode cX0_odds 114 = .ok (.goto 13, 3) := by decide +kernel
theorem dX0_odds_117 : decode cX0_odds 117 = .ok (.iload 6, 2) := by decide +kernel
theorem dX0_odds_119 : decode cX0_odds 119 = .ok (.goto 8, 3) := by decide +kernel
theorem dX0_odds_122 : decode cX0_odds 122 = .ok (.iload 6, 2) := by decide +kernel
theorem dX0_odds_124 : decode cX0_odds 124 = .ok (.iload 7, 2) := by decide +kernel
theorem dX0_odds_126 : decode cX0_odds 126 = .ok (.iadd, 1) := by decide +kernel
theorem dX0_odds_127 : decode cX0_odds 127 = .ok (.istore 9, 2) := by decide +kernel
theorem dX0_odds_129 : decode cX0_odds 129 = .ok (.iload 8, 2) := by decide +kernel
theorem dX0_odds_131 : decode cX0_odds 131 = .ok (.iload 9, 2) := by decide +kernel
theorem dX0_odds_133 : decode cX0_odds 133 = .ok (.invokestatic 159, 3) := by decide +kernel
theorem dX0_odds_136 : decode cX0_odds 136 = .ok (.istore 10, 2) := by decide +kernel
theorem dX0_odds_138 : decode cX0_odds 138 = .ok (.iload_n 2, 1) := by decide +kernel
theorem dX0_odds_139 : decode cX0_odds 139 = .ok (.iconst 2, 1) := by decide +kernel
theorem dX0_odds_140 : decode cX0_odds 140 = .ok (.irem, 1) := by decide +kernel
theorem dX0_odds_141 : decode cX0_odds 141 = .ok (.ifCond .ne 11, 3) := by decide +kernel
theorem dX0_odds_144 : decode cX0_odds 144 = .ok (.iload 8, 2) := by decide +kernel
theorem dX0_odds_146 : decode cX0_odds 146 = .ok (.iload 10, 2) := by decide +kernel
theorem dX0_odds_148 : decode cX0_odds 148 = .ok (.idiv, 1) := by decide +kernel
theorem dX0_odds_149 : decode cX0_odds 149 = .ok (.goto 8, 3) := by decide +kernel
theorem dX0_odds_152 : decode cX0_odds 152 = .ok (.iload 9, 2) := by decide +kernel
theorem dX0_odds_154 : decode cX0_odds 154 = .ok (.iload 10, 2) := by decide +kernel
theorem dX0_odds_156 : decode cX0_odds 156 = .ok (.idiv, 1) := by decide +kernel
theorem dX0_odds_157 : decode cX0_odds 157 = .ok (.ireturn, 1) := by decide +kernel
theorem dX0_depthOf_0 : decode cX0_depthOf 0 = .ok (.iconst 4, 1) := by decide +kernel
theorem dX0_depthOf_1 : decode cX0_depthOf 1 = .ok (.istore_n 2, 1) := by decide +kernel
theorem dX0_depthOf_2 : decode cX0_depthOf 2 = .ok (.iload_n 2, 1) := by decide +kernel
theorem dX0_depthOf_3 : decode cX0_depthOf 3 = .ok (.ifCond .le 28, 3) := by decide +kernel
theorem dX0_depthOf_6 : decode cX0_depthOf 6 = .ok (.aload_n 0, 1) := by decide +kernel
theorem dX0_depthOf_7 : decode cX0_depthOf 7 = .ok (.iload_n 2, 1) := by decide +kernel
theorem dX0_depthOf_8 : decode cX0_depthOf 8 = .ok (.aload_n 1, 1) := by decide +kernel
theorem dX0_depthOf_9 : decode cX0_depthOf 9 = .ok (.getfield 149, 3) := by decide +kernel
theorem dX0_depthOf_12 : decode cX0_depthOf 12 = .ok (.iconst 1, 1) := by decide +kernel
theorem dX0_depthOf_13 : decode cX0_depthOf 13 = .ok (.invokevirtual 145, 3) := by decide +kernel
theorem dX0_depthOf_16 : decode cX0_depthOf 16 = .ok (.aload_n 0, 1) := by decide +kernel
theorem dX0_depthOf_17 : decode cX0_depthOf 17 = .ok (.getfield 13, 3) := by decide +kernel
theorem dX0_depthOf_20 : decode cX0_depthOf 20 = .ok (.if_icmp .lt 5, 3) := by decide +kernel
theorem dX0_depthOf_23 : decode cX0_depthOf 23 = .ok (.iload_n 2, 1) := by decide +kernel
theorem dX0_depthOf_24 : decode cX0_depthOf 24 = .ok (.ireturn, 1) := by decide +kernel
theorem dX0_depthOf_25 : decode cX0_depthOf 25 = .ok (.iinc 2 (-1), 3) := by decide +kernel
theorem dX0_depthOf_28 : decode cX0_depthOf 28 = .ok (.goto (-26), 3) := by decide +kernel
theorem dX0_depthOf_31 : decode cX0_depthOf 31 = .ok (.iconst 0, 1) := by decide +kernel
theorem dX0_depthOf_32 : decode cX0_depthOf 32 = .ok (.ireturn, 1) := by decide +kernel
theorem dX0_common_0 : decode cX0_common 0 = .ok (.iload_n 0, 1) := by decide +kernel
theorem dX0_common_1 : decode cX0_common 1 = .ok (.istore_n 2, 1) := by decide +kernel
theorem dX0_common_2 : decode cX0_common 2 = .ok (.iload_n 1, 1) := by decide +kernel
theorem dX0_common_3 : decode cX0_common 3 = .ok (.istore_n 3, 1) := by decide +kernel
theorem dX0_common_4 : decode cX0_common 4 = .ok (.iload_n 3, 1) := by decide +kernel
theorem dX0_common_5 : decode cX0_common 5 = .ok (.ifCond .eq 16, 3) := by decide +kernel
theorem dX0_common_8 : decode cX0_common 8 = .ok (.iload_n 2, 1) := by decide +kernel
theorem dX0_common_9 : decode cX0_common 9 = .ok (.iload_n 3, 1) := by decide +kernel
theorem dX0_common_10 : decode cX0_common 10 = .ok (.irem, 1) := by decide +kernel
theorem dX0_common_11 : decode cX0_common 11 = .ok (.istore 4, 2) := by decide +kernel
theorem dX0_common_13 : decode cX0_common 13 = .ok (.iload_n 3, 1) := by decide +kernel
theorem dX0_common_14 : decode cX0_common 14 = .ok (.istore_n 2, 1) := by decide +kernel
theorem dX0_common_15 : decode cX0_common 15 = .ok (.iload 4, 2) := by decide +kernel
theorem dX0_common_17 : decode cX0_common 17 = .ok (.istore_n 3, 1) := by decide +kernel
theorem dX0_common_18 : decode cX0_common 18 = .ok (.goto (-14), 3) := by decide +kernel
theorem dX0_common_21 : decode cX0_common 21 = .ok (.iload_n 2, 1) := by decide +kernel
theorem dX0_common_22 : decode cX0_common 22 = .ok (.ireturn, 1) := by decide +kernel
theorem dX0_tie_0 : decode cX0_tie 0 = .ok (.aload_n 0, 1) := by decide +kernel
theorem dX0_tie_1 : decode cX0_tie 1 = .ok (.iload_n 1, 1) := by decide +kernel
theorem dX0_tie_2 : decode cX0_tie 2 = .ok (.invokevirtual 119, 3) := by decide +kernel
theorem dX0_tie_5 : decode cX0_tie 5 = .ok (.ifnull 16, 3) := by decide +kernel
theorem dX0_tie_8 : decode cX0_tie 8 = .ok (.aload_n 0, 1) := by decide +kernel
theorem dX0_tie_9 : decode cX0_tie 9 = .ok (.iload_n 2, 1) := by decide +kernel
theorem dX0_tie_10 : decode cX0_tie 10 = .ok (.invokevirtual 119, 3) := by decide +kernel
theorem dX0_tie_13 : decode cX0_tie 13 = .ok (.ifnull 8, 3) := by decide +kernel
theorem dX0_tie_16 : decode cX0_tie 16 = .ok (.iload_n 1, 1) := by decide +kernel
theorem dX0_tie_17 : decode cX0_tie 17 = .ok (.iload_n 2, 1) := by decide +kernel
theorem dX0_tie_18 : decode cX0_tie 18 = .ok (.if_icmp .ne 5, 3) := by decide +kernel
theorem dX0_tie_21 : decode cX0_tie 21 = .ok (.iconst 0, 1) := by decide +kernel
theorem dX0_tie_22 : decode cX0_tie 22 = .ok (.ireturn, 1) := by decide +kernel
theorem dX0_tie_23 : decode cX0_tie 23 = .ok (.aload_n 0, 1) := by decide +kernel
theorem dX0_tie_24 : decode cX0_tie 24 = .ok (.iload_n 1, 1) := by decide +kernel
theorem dX0_tie_25 : decode cX0_tie 25 = .ok (.iload_n 2, 1) := by decide +kernel
theorem dX0_tie_26 : decode cX0_tie 26 = .ok (.invokevirtual 166, 3) := by decide +kernel
theorem dX0_tie_29 : decode cX0_tie 29 = .ok (.istore 4, 2) := by decide +kernel
theorem dX0_tie_31 : decode cX0_tie 31 = .ok (.iload 4, 2) := by decide +kernel
theorem dX0_tie_33 : decode cX0_tie 33 = .ok (.ifCond .lt 26, 3) := by decide +kernel
theorem dX0_tie_36 : decode cX0_tie 36 = .ok (.aload_n 0, 1) := by decide +kernel
theorem dX0_tie_37 : decode cX0_tie 37 = .ok (.getfield 39, 3) := by decide +kernel
theorem dX0_tie_40 : decode cX0_tie 40 = .ok (.iload 4, 2) := by decide +kernel
theorem dX0_tie_42 : decode cX0_tie 42 = .ok (.baload, 1) := by decide +kernel
theorem dX0_tie_43 : decode cX0_tie 43 = .ok (.iload_n 3, 1) := by decide +kernel
theorem dX0_tie_44 : decode cX0_tie 44 = .ok (.if_icmp .ne 5, 3) := by decide +kernel
theorem dX0_tie_47 : decode cX0_tie 47 = .ok (.iconst 0, 1) := by decide +kernel
theorem dX0_tie_48 : decode cX0_tie 48 = .ok (.ireturn, 1) := by decide +kernel
theorem dX0_tie_49 : decode cX0_tie 49 = .ok (.aload_n 0, 1) := by decide +kernel
theorem dX0_tie_50 : decode cX0_tie 50 = .ok (.getfield 39, 3) := by decide +kernel
theorem dX0_tie_53 : decode cX0_tie 53 = .ok (.iload 4, 2) := by decide +kernel
theorem dX0_tie_55 : decode cX0_tie 55 = .ok (.iload_n 3, 1) := by decide +kernel
theorem dX0_tie_56 : decode cX0_tie 56 = .ok (.bastore, 1) := by decide +kernel
theorem dX0_tie_57 : decode cX0_tie 57 = .ok (.iconst 1, 1) := by decide +kernel
theorem dX0_tie_58 : decode cX0_tie 58 = .ok (.ireturn, 1) := by decide +kernel
theorem dX0_tie_59 : decode cX0_tie 59 = .ok (.aload_n 0, 1) := by decide +kernel
theorem dX0_tie_60 : decode cX0_tie 60 = .ok (.getfield 163, 3) := by decide +kernel
theorem dX0_tie_63 : decode cX0_tie 63 = .ok (.bipush 60, 2) := by decide +kernel
theorem dX0_tie_65 : decode cX0_tie 65 = .ok (.if_icmp .ne 5, 3) := by decide +kernel
