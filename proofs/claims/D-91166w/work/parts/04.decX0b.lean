set_option maxRecDepth 100000
theorem dX0_tie_68 : decode cX0_tie 68 = .ok (.iconst 0, 1) := by decide +kernel
theorem dX0_tie_69 : decode cX0_tie 69 = .ok (.ireturn, 1) := by decide +kernel
theorem dX0_tie_70 : decode cX0_tie 70 = .ok (.aload_n 0, 1) := by decide +kernel
theorem dX0_tie_71 : decode cX0_tie 71 = .ok (.getfield 33, 3) := by decide +kernel
theorem dX0_tie_74 : decode cX0_tie 74 = .ok (.aload_n 0, 1) := by decide +kernel
theorem dX0_tie_75 : decode cX0_tie 75 = .ok (.getfield 163, 3) := by decide +kernel
theorem dX0_tie_78 : decode cX0_tie 78 = .ok (.iload_n 1, 1) := by decide +kernel
theorem dX0_tie_79 : decode cX0_tie 79 = .ok (.iastore, 1) := by decide +kernel
theorem dX0_tie_80 : decode cX0_tie 80 = .ok (.aload_n 0, 1) := by decide +kernel
theorem dX0_tie_81 : decode cX0_tie 81 = .ok (.getfield 36, 3) := by decide +kernel
theorem dX0_tie_84 : decode cX0_tie 84 = .ok (.aload_n 0, 1) := by decide +kernel
theorem dX0_tie_85 : decode cX0_tie 85 = .ok (.getfield 163, 3) := by decide +kernel
theorem dX0_tie_88 : decode cX0_tie 88 = .ok (.iload_n 2, 1) := by decide +kernel
theorem dX0_tie_89 : decode cX0_tie 89 = .ok (.iastore, 1) := by decide +kernel
theorem dX0_tie_90 : decode cX0_tie 90 = .ok (.aload_n 0, 1) := by decide +kernel
theorem dX0_tie_91 : decode cX0_tie 91 = .ok (.getfield 39, 3) := by decide +kernel
theorem dX0_tie_94 : decode cX0_tie 94 = .ok (.aload_n 0, 1) := by decide +kernel
theorem dX0_tie_95 : decode cX0_tie 95 = .ok (.getfield 163, 3) := by decide +kernel
theorem dX0_tie_98 : decode cX0_tie 98 = .ok (.iload_n 3, 1) := by decide +kernel
theorem dX0_tie_99 : decode cX0_tie 99 = .ok (.bastore, 1) := by decide +kernel
theorem dX0_tie_100 : decode cX0_tie 100 = .ok (.aload_n 0, 1) := by decide +kernel
theorem dX0_tie_101 : decode cX0_tie 101 = .ok (.dup, 1) := by decide +kernel
theorem dX0_tie_102 : decode cX0_tie 102 = .ok (.getfield 163, 3) := by decide +kernel
theorem dX0_tie_105 : decode cX0_tie 105 = .ok (.iconst 1, 1) := by decide +kernel
theorem dX0_tie_106 : decode cX0_tie 106 = .ok (.iadd, 1) := by decide +kernel
theorem dX0_tie_107 : decode cX0_tie 107 = .ok (.putfield 163, 3) := by decide +kernel
theorem dX0_tie_110 : decode cX0_tie 110 = .ok (.iconst 1, 1) := by decide +kernel
theorem dX0_tie_111 : decode cX0_tie 111 = .ok (.ireturn, 1) := by decide +kernel
theorem dX0_tieOf_0 : decode cX0_tieOf 0 = .ok (.iconst 0, 1) := by decide +kernel
theorem dX0_tieOf_1 : decode cX0_tieOf 1 = .ok (.istore_n 3, 1) := by decide +kernel
theorem dX0_tieOf_2 : decode cX0_tieOf 2 = .ok (.iload_n 3, 1) := by decide +kernel
theorem dX0_tieOf_3 : decode cX0_tieOf 3 = .ok (.aload_n 0, 1) := by decide +kernel
theorem dX0_tieOf_4 : decode cX0_tieOf 4 = .ok (.getfield 163, 3) := by decide +kernel
theorem dX0_tieOf_7 : decode cX0_tieOf 7 = .ok (.if_icmp .ge 51, 3) := by decide +kernel
theorem dX0_tieOf_10 : decode cX0_tieOf 10 = .ok (.aload_n 0, 1) := by decide +kernel
theorem dX0_tieOf_11 : decode cX0_tieOf 11 = .ok (.getfield 33, 3) := by decide +kernel
theorem dX0_tieOf_14 : decode cX0_tieOf 14 = .ok (.iload_n 3, 1) := by decide +kernel
theorem dX0_tieOf_15 : decode cX0_tieOf 15 = .ok (.iaload, 1) := by decide +kernel
theorem dX0_tieOf_16 : decode cX0_tieOf 16 = .ok (.iload_n 1, 1) := by decide +kernel
theorem dX0_tieOf_17 : decode cX0_tieOf 17 = .ok (.if_icmp .ne 13, 3) := by decide +kernel
theorem dX0_tieOf_20 : decode cX0_tieOf 20 = .ok (.aload_n 0, 1) := by decide +kernel
theorem dX0_tieOf_21 : decode cX0_tieOf 21 = .ok (.getfield 36, 3) := by decide +kernel
theorem dX0_tieOf_24 : decode cX0_tieOf 24 = .ok (.iload_n 3, 1) := by decide +kernel
theorem dX0_tieOf_25 : decode cX0_tieOf 25 = .ok (.iaload, 1) := by decide +kernel
theorem dX0_tieOf_26 : decode cX0_tieOf 26 = .ok (.iload_n 2, 1) := by decide +kernel
theorem dX0_tieOf_27 : decode cX0_tieOf 27 = .ok (.if_icmp .eq 23, 3) := by decide +kernel
theorem dX0_tieOf_30 : decode cX0_tieOf 30 = .ok (.aload_n 0, 1) := by decide +kernel
theorem dX0_tieOf_31 : decode cX0_tieOf 31 = .ok (.getfield 33, 3) := by decide +kernel
theorem dX0_tieOf_34 : decode cX0_tieOf 34 = .ok (.iload_n 3, 1) := by decide +kernel
theorem dX0_tieOf_35 : decode cX0_tieOf 35 = .ok (.iaload, 1) := by decide +kernel
theorem dX0_tieOf_36 : decode cX0_tieOf 36 = .ok (.iload_n 2, 1) := by decide +kernel
theorem dX0_tieOf_37 : decode cX0_tieOf 37 = .ok (.if_icmp .ne 15, 3) := by decide +kernel
theorem dX0_tieOf_40 : decode cX0_tieOf 40 = .ok (.aload_n 0, 1) := by decide +kernel
theorem dX0_tieOf_41 : decode cX0_tieOf 41 = .ok (.getfield 36, 3) := by decide +kernel
theorem dX0_tieOf_44 : decode cX0_tieOf 44 = .ok (.iload_n 3, 1) := by decide +kernel
theorem dX0_tieOf_45 : decode cX0_tieOf 45 = .ok (.iaload, 1) := by decide +kernel
theorem dX0_tieOf_46 : decode cX0_tieOf 46 = .ok (.iload_n 1, 1) := by decide +kernel
theorem dX0_tieOf_47 : decode cX0_tieOf 47 = .ok (.if_icmp .ne 5, 3) := by decide +kernel
theorem dX0_tieOf_50 : decode cX0_tieOf 50 = .ok (.iload_n 3, 1) := by decide +kernel
theorem dX0_tieOf_51 : decode cX0_tieOf 51 = .ok (.ireturn, 1) := by decide +kernel
theorem dX0_tieOf_52 : decode cX0_tieOf 52 = .ok (.iinc 3 1, 3) := by decide +kernel
theorem dX0_tieOf_55 : decode cX0_tieOf 55 = .ok (.goto (-53), 3) := by decide +kernel
theorem dX0_tieOf_58 : decode cX0_tieOf 58 = .ok (.iconst (-1), 1) := by decide +kernel
theorem dX0_tieOf_59 : decode cX0_tieOf 59 = .ok (.ireturn, 1) := by decide +kernel
theorem dX0_told_0 : decode cX0_told 0 = .ok (.aload_n 0, 1) := by decide +kernel
theorem dX0_told_1 : decode cX0_told 1 = .ok (.iload_n 1, 1) := by decide +kernel
theorem dX0_told_2 : decode cX0_told 2 = .ok (.invokevirtual 119, 3) := by decide +kernel
theorem dX0_told_5 : decode cX0_told 5 = .ok (.astore_n 3, 1) := by decide +kernel
theorem dX0_told_6 : decode cX0_told 6 = .ok (.aload_n 3, 1) := by decide +kernel
theorem dX0_told_7 : decode cX0_told 7 = .ok (.ifnonnull 5, 3) := by decide +kernel
theorem dX0_told_10 : decode cX0_told 10 = .ok (.iconst (-1), 1) := by decide +kernel
theorem dX0_told_11 : decode cX0_told 11 = .ok (.ireturn, 1) := by decide +kernel
theorem dX0_told_12 : decode cX0_told 12 = .ok (.iload_n 2, 1) := by decide +kernel
theorem dX0_told_13 : decode cX0_told 13 = .ok (.tableswitch 159 0 12 #[67, 72, 77, 82, 87, 92, 97, 102, 115, 128, 134, 140, 148], 67) := by decide +kernel
theorem dX0_told_80 : decode cX0_told 80 = .ok (.aload_n 3, 1) := by decide +kernel
theorem dX0_told_81 : decode cX0_told 81 = .ok (.getfield 90, 3) := by decide +kernel
theorem dX0_told_84 : decode cX0_told 84 = .ok (.ireturn, 1) := by decide +kernel
theorem dX0_told_85 : decode cX0_told 85 = .ok (.aload_n 3, 1) := by decide +kernel
theorem dX0_told_86 : decode cX0_told 86 = .ok (.getfield 83, 3) := by decide +kernel
theorem dX0_told_89 : decode cX0_told 89 = .ok (.ireturn, 1) := by decide +kernel
theorem dX0_told_90 : decode cX0_told 90 = .ok (.aload_n 3, 1) := by decide +kernel
theorem dX0_told_91 : decode cX0_told 91 = .ok (.getfield 172, 3) := by decide +kernel
theorem dX0_told_94 : decode cX0_told 94 = .ok (.ireturn, 1) := by decide +kernel
theorem dX0_told_95 : decode cX0_told 95 = .ok (.aload_n 3, 1) := by decide +kernel
theorem dX0_told_96 : decode cX0_told 96 = .ok (.getfield 149, 3) := by decide +kernel
theorem dX0_told_99 : decode cX0_told 99 = .ok (.ireturn, 1) := by decide +kernel
theorem dX0_told_100 : decode cX0_told 100 = .ok (.aload_n 3, 1) := by decide +kernel
theorem dX0_told_101 : decode cX0_told 101 = .ok (.getfield 156, 3) := by decide +kernel
theorem dX0_told_104 : decode cX0_told 104 = .ok (.ireturn, 1) := by decide +kernel
theorem dX0_told_105 : decode cX0_told 105 = .ok (.aload_n 3, 1) := by decide +kernel
theorem dX0_told_106 : decode cX0_told 106 = .ok (.getfield 102, 3) := by decide +kernel
theorem dX0_told_109 : decode cX0_told 109 = .ok (.ireturn, 1) := by decide +kernel
theorem dX0_told_110 : decode cX0_told 110 = .ok (.aload_n 3, 1) := by decide +kernel
theorem dX0_told_111 : decode cX0_told 111 = .ok (.getfield 123, 3) := by decide +kernel
theorem dX0_told_114 : decode cX0_told 114 = .ok (.ireturn, 1) := by decide +kernel
theorem dX0_told_115 : decode cX0_told 115 = .ok (.aload_n 3, 1) := by decide +kernel
theorem dX0_told_116 : decode cX0_told 116 = .ok (.getfield 220, 3) := by decide +kernel
theorem dX0_told_119 : decode cX0_told 119 = .ok (.ifCond .eq 7, 3) := by decide +kernel
theorem dX0_told_122 : decode cX0_told 122 = .ok (.iconst 1, 1) := by decide +kernel
theorem dX0_told_123 : decode cX0_told 123 = .ok (.goto 4, 3) := by decide +kernel
theorem dX0_told_126 : decode cX0_told 126 = .ok (.iconst 0, 1) := by decide +kernel
theorem dX0_told_127 : decode cX0_told 127 = .ok (.ireturn, 1) := by decide +kernel
theorem dX0_told_128 : decode cX0_told 128 = .ok (.aload_n 3, 1) := by decide +kernel
theorem dX0_told_129 : decode cX0_told 129 = .ok (.getfield 223, 3) := by decide +kernel
theorem dX0_told_132 : decode cX0_told 132 = .ok (.ifCond .eq 7, 3) := by decide +kernel
theorem dX0_told_135 : decode cX0_told 135 = .ok (.iconst 1, 1) := by decide +kernel
theorem dX0_told_136 : decode cX0_told 136 = .ok (.goto 4, 3) := by decide +kernel
theorem dX0_told_139 : decode cX0_told 139 = .ok (.iconst 0, 1) := by decide +kernel
theorem dX0_told_140 : decode cX0_told 140 = .ok (.ireturn, 1) := by decide +kernel
theorem dX0_told_141 : decode cX0_told 141 = .ok (.aload_n 0, 1) := by decide +kernel
theorem dX0_told_142 : decode cX0_told 142 = .ok (.aload_n 3, 1) := by decide +kernel
theorem dX0_told_143 : decode cX0_told 143 = .ok (.invokevirtual 206, 3) := by decide +kernel
theorem dX0_told_146 : decode cX0_told 146 = .ok (.ireturn, 1) := by decide +kernel
theorem dX0_told_147 : decode cX0_told 147 = .ok (.aload_n 0, 1) := by decide +kernel
theorem dX0_told_148 : decode cX0_told 148 = .ok (.aload_n 3, 1) := by decide +kernel
theorem dX0_told_149 : decode cX0_told 149 = .ok (.invokevirtual 152, 3) := by decide +kernel
theorem dX0_told_152 : decode cX0_told 152 = .ok (.ireturn, 1) := by decide +kernel
theorem dX0_told_153 : decode cX0_told 153 = .ok (.aload_n 3, 1) := by decide +kernel
theorem dX0_told_154 : decode cX0_told 154 = .ok (.getfield 126, 3) := by decide +kernel
theorem dX0_told_157 : decode cX0_told 157 = .ok (.invokevirtual 70, 3) := by decide +kernel
theorem dX0_told_160 : decode cX0_told 160 = .ok (.ireturn, 1) := by decide +kernel
theorem dX0_told_161 : decode cX0_told 161 = .ok (.aload_n 0, 1) := by decide +kernel
theorem dX0_told_162 : decode cX0_told 162 = .ok (.invokevirtual 215, 3) := by decide +kernel
theorem dX0_told_165 : decode cX0_told 165 = .ok (.aload_n 0, 1) := by decide +kernel
theorem dX0_told_166 : decode cX0_told 166 = .ok (.getfield 46, 3) := by decide +kernel
theorem dX0_told_169 : decode cX0_told 169 = .ok (.iload_n 1, 1) := by decide +kernel
theorem dX0_told_170 : decode cX0_told 170 = .ok (.iaload, 1) := by decide +kernel
theorem dX0_told_171 : decode cX0_told 171 = .ok (.ireturn, 1) := by decide +kernel
theorem dX0_told_172 : decode cX0_told 172 = .ok (.iconst (-1), 1) := by decide +kernel
theorem dX0_told_173 : decode cX0_told 173 = .ok (.ireturn, 1) := by decide +kernel
theorem dX0_scoreOf_0 : decode cX0_scoreOf 0 = .ok (.aload_n 0, 1) := by decide +kernel
theorem dX0_scoreOf_1 : decode cX0_scoreOf 1 = .ok (.aload_n 1, 1) := by decide +kernel
theorem dX0_scoreOf_2 : decode cX0_scoreOf 2 = .ok (.invokevirtual 152, 3) := by decide +kernel
theorem dX0_scoreOf_5 : decode cX0_scoreOf 5 = .ok (.istore_n 2, 1) := by decide +kernel
theorem dX0_scoreOf_6 : decode cX0_scoreOf 6 = .ok (.aload_n 0, 1) := by decide +kernel
theorem dX0_scoreOf_7 : decode cX0_scoreOf 7 = .ok (.iload_n 2, 1) := by decide +kernel
theorem dX0_scoreOf_8 : decode cX0_scoreOf 8 = .ok (.aload_n 1, 1) := by decide +kernel
theorem dX0_scoreOf_9 : decode cX0_scoreOf 9 = .ok (.getfield 149, 3) := by decide +kernel
theorem dX0_scoreOf_12 : decode cX0_scoreOf 12 = .ok (.iconst 1, 1) := by decide +kernel
theorem dX0_scoreOf_13 : decode cX0_scoreOf 13 = .ok (.invokevirtual 145, 3) := by decide +kernel
theorem dX0_scoreOf_16 : decode cX0_scoreOf 16 = .ok (.istore_n 3, 1) := by decide +kernel
theorem dX0_scoreOf_17 : decode cX0_scoreOf 17 = .ok (.iload_n 3, 1) := by decide +kernel
theorem dX0_scoreOf_18 : decode cX0_scoreOf 18 = .ok (.ifCond .ne 14, 3) := by decide +kernel
theorem dX0_scoreOf_21 : decode cX0_scoreOf 21 = .ok (.sipush 500, 3) := by decide +kernel
theorem dX0_scoreOf_24 : decode cX0_scoreOf 24 = .ok (.aload_n 1, 1) := by decide +kernel
theorem dX0_scoreOf_25 : decode cX0_scoreOf 25 = .ok (.getfield 156, 3) := by decide +kernel
theorem dX0_scoreOf_28 : decode cX0_scoreOf 28 = .ok (.imul, 1) := by decide +kernel
theorem dX0_scoreOf_29 : decode cX0_scoreOf 29 = .ok (.goto 24, 3) := by decide +kernel
theorem dX0_scoreOf_32 : decode cX0_scoreOf 32 = .ok (.sipush 1000, 3) := by decide +kernel
theorem dX0_scoreOf_35 : decode cX0_scoreOf 35 = .ok (.aload_n 1, 1) := by decide +kernel
theorem dX0_scoreOf_36 : decode cX0_scoreOf 36 = .ok (.getfield 156, 3) := by decide +kernel
theorem dX0_scoreOf_39 : decode cX0_scoreOf 39 = .ok (.imul, 1) := by decide +kernel
theorem dX0_scoreOf_40 : decode cX0_scoreOf 40 = .ok (.aload_n 0, 1) := by decide +kernel
theorem dX0_scoreOf_41 : decode cX0_scoreOf 41 = .ok (.iload_n 2, 1) := by decide +kernel
theorem dX0_scoreOf_42 : decode cX0_scoreOf 42 = .ok (.aload_n 1, 1) := by decide +kernel
theorem dX0_scoreOf_43 : decode cX0_scoreOf 43 = .ok (.getfield 149, 3) := by decide +kernel
theorem dX0_scoreOf_46 : decode cX0_scoreOf 46 = .ok (.iconst 0, 1) := by decide +kernel
theorem dX0_scoreOf_47 : decode cX0_scoreOf 47 = .ok (.invokevirtual 145, 3) := by decide +kernel
theorem dX0_scoreOf_50 : decode cX0_scoreOf 50 = .ok (.imul, 1) := by decide +kernel
theorem dX0_scoreOf_51 : decode cX0_scoreOf 51 = .ok (.iload_n 3, 1) := by decide +kernel
theorem dX0_scoreOf_52 : decode cX0_scoreOf 52 = .ok (.idiv, 1) := by decide +kernel
theorem dX0_scoreOf_53 : decode cX0_scoreOf 53 = .ok (.ireturn, 1) := by decide +kernel
theorem dX0_makes_0 : decode cX0_makes 0 = .ok (.aload_n 0, 1) := by decide +kernel
theorem dX0_makes_1 : decode cX0_makes 1 = .ok (.getfield 43, 3) := by decide +kernel
theorem dX0_makes_4 : decode cX0_makes 4 = .ok (.invokevirtual 181, 3) := by decide +kernel
theorem dX0_makes_7 : decode cX0_makes 7 = .ok (.iconst 0, 1) := by decide +kernel
theorem dX0_makes_8 : decode cX0_makes 8 = .ok (.istore_n 1, 1) := by decide +kernel
theorem dX0_makes_9 : decode cX0_makes 9 = .ok (.iload_n 1, 1) := by decide +kernel
theorem dX0_makes_10 : decode cX0_makes 10 = .ok (.aload_n 0, 1) := by decide +kernel
theorem dX0_makes_11 : decode cX0_makes 11 = .ok (.getfield 19, 3) := by decide +kernel
theorem dX0_makes_14 : decode cX0_makes 14 = .ok (.invokevirtual 70, 3) := by decide +kernel
theorem dX0_makes_17 : decode cX0_makes 17 = .ok (.if_icmp .ge 37, 3) := by decide +kernel
theorem dX0_makes_20 : decode cX0_makes 20 = .ok (.aload_n 0, 1) := by decide +kernel
theorem dX0_makes_21 : decode cX0_makes 21 = .ok (.getfield 46, 3) := by decide +kernel
theorem dX0_makes_24 : decode cX0_makes 24 = .ok (.iload_n 1, 1) := by decide +kernel
theorem dX0_makes_25 : decode cX0_makes 25 = .ok (.aload_n 0, 1) := by decide +kernel
theorem dX0_makes_26 : decode cX0_makes 26 = .ok (.getfield 19, 3) := by decide +kernel
theorem dX0_makes_29 : decode cX0_makes 29 = .ok (.iload_n 1, 1) := by decide +kernel
theorem dX0_makes_30 : decode cX0_makes 30 = .ok (.invokevirtual 74, 3) := by decide +kernel
theorem dX0_makes_33 : decode cX0_makes 33 = .ok (.checkcast 78, 3) := by decide +kernel
theorem dX0_makes_36 : decode cX0_makes 36 = .ok (.invokevirtual 96, 3) := by decide +kernel
theorem dX0_makes_39 : decode cX0_makes 39 = .ok (.ifCond .eq 7, 3) := by decide +kernel
theorem dX0_makes_42 : decode cX0_makes 42 = .ok (.iload_n 1, 1) := by decide +kernel
theorem dX0_makes_43 : decode cX0_makes 43 = .ok (.goto 4, 3) := by decide +kernel
theorem dX0_makes_46 : decode cX0_makes 46 = .ok (.iconst (-1), 1) := by decide +kernel
theorem dX0_makes_47 : decode cX0_makes 47 = .ok (.iastore, 1) := by decide +kernel
theorem dX0_makes_48 : decode cX0_makes 48 = .ok (.iinc 1 1, 3) := by decide +kernel
theorem dX0_makes_51 : decode cX0_makes 51 = .ok (.goto (-42), 3) := by decide +kernel
theorem dX0_makes_54 : decode cX0_makes 54 = .ok (.iconst 1, 1) := by decide +kernel
theorem dX0_makes_55 : decode cX0_makes 55 = .ok (.istore_n 1, 1) := by decide +kernel
theorem dX0_makes_56 : decode cX0_makes 56 = .ok (.iload_n 1, 1) := by decide +kernel
theorem dX0_makes_57 : decode cX0_makes 57 = .ok (.ifCond .eq 148, 3) := by decide +kernel
theorem dX0_makes_60 : decode cX0_makes 60 = .ok (.iconst 0, 1) := by decide +kernel
theorem dX0_makes_61 : decode cX0_makes 61 = .ok (.istore_n 1, 1) := by decide +kernel
theorem dX0_makes_62 : decode cX0_makes 62 = .ok (.iconst 0, 1) := by decide +kernel
theorem dX0_makes_63 : decode cX0_makes 63 = .ok (.istore_n 2, 1) := by decide +kernel
theorem dX0_makes_64 : decode cX0_makes 64 = .ok (.iload_n 2, 1) := by decide +kernel
theorem dX0_makes_65 : decode cX0_makes 65 = .ok (.aload_n 0, 1) := by decide +kernel
theorem dX0_makes_66 : decode cX0_makes 66 = .ok (.getfield 19, 3) := by decide +kernel
theorem dX0_makes_69 : decode cX0_makes 69 = .ok (.invokevirtual 70, 3) := by decide +kernel
theorem dX0_makes_72 : decode cX0_makes 72 = .ok (.if_icmp .ge 130, 3) := by decide +kernel
theorem dX0_makes_75 : decode cX0_makes 75 = .ok (.iload_n 2, 1) := by decide +kernel
theorem dX0_makes_76 : decode cX0_makes 76 = .ok (.iconst 1, 1) := by decide +kernel
theorem dX0_makes_77 : decode cX0_makes 77 = .ok (.iadd, 1) := by decide +kernel
theorem dX0_makes_78 : decode cX0_makes 78 = .ok (.istore_n 3, 1) := by decide +kernel
theorem dX0_makes_79 : decode cX0_makes 79 = .ok (.iload_n 3, 1) := by decide +kernel
theorem dX0_makes_80 : decode cX0_makes 80 = .ok (.aload_n 0, 1) := by decide +kernel
theorem dX0_makes_81 : decode cX0_makes 81 = .ok (.getfield 19, 3) := by decide +kernel
theorem dX0_makes_84 : decode cX0_makes 84 = .ok (.invokevirtual 70, 3) := by decide +kernel
theorem dX0_makes_87 : decode cX0_makes 87 = .ok (.if_icmp .ge 109, 3) := by decide +kernel
theorem dX0_makes_90 : decode cX0_makes 90 = .ok (.aload_n 0, 1) := by decide +kernel
theorem dX0_makes_91 : decode cX0_makes 91 = .ok (.getfield 46, 3) := by decide +kernel
theorem dX0_makes_94 : decode cX0_makes 94 = .ok (.iload_n 2, 1) := by decide +kernel
theorem dX0_makes_95 : decode cX0_makes 95 = .ok (.iaload, 1) := by decide +kernel
theorem dX0_makes_96 : decode cX0_makes 96 = .ok (.ifCond .lt 94, 3) := by decide +kernel
theorem dX0_makes_99 : decode cX0_makes 99 = .ok (.aload_n 0, 1) := by decide +kernel
theorem dX0_makes_100 : decode cX0_makes 100 = .ok (.getfield 46, 3) := by decide +kernel
theorem dX0_makes_103 : decode cX0_makes 103 = .ok (.iload_n 3, 1) := by decide +kernel
theorem dX0_makes_104 : decode cX0_makes 104 = .ok (.iaload, 1) := by decide +kernel
theorem dX0_makes_105 : decode cX0_makes 105 = .ok (.ifCond .lt 85, 3) := by decide +kernel
theorem dX0_makes_108 : decode cX0_makes 108 = .ok (.aload_n 0, 1) := by decide +kernel
theorem dX0_makes_109 : decode cX0_makes 109 = .ok (.getfield 46, 3) := by decide +kernel
theorem dX0_makes_112 : decode cX0_makes 112 = .ok (.iload_n 2, 1) := by decide +kernel
theorem dX0_makes_113 : decode cX0_makes 113 = .ok (.iaload, 1) := by decide +kernel
theorem dX0_makes_114 : decode cX0_makes 114 = .ok (.aload_n 0, 1) := by decide +kernel
theorem dX0_makes_115 : decode cX0_makes 115 = .ok (.getfield 46, 3) := by decide +kernel
theorem dX0_makes_118 : decode cX0_makes 118 = .ok (.iload_n 3, 1) := by decide +kernel
theorem dX0_makes_119 : decode cX0_makes 119 = .ok (.iaload, 1) := by decide +kernel
theorem dX0_makes_120 : decode cX0_makes 120 = .ok (.if_icmp .eq 70, 3) := by decide +kernel
theorem dX0_makes_123 : decode cX0_makes 123 = .ok (.aload_n 0, 1) := by decide +kernel
theorem dX0_makes_124 : decode cX0_makes 124 = .ok (.aload_n 0, 1) := by decide +kernel
theorem dX0_makes_125 : decode cX0_makes 125 = .ok (.getfield 19, 3) := by decide +kernel
theorem dX0_makes_128 : decode cX0_makes 128 = .ok (.iload_n 2, 1) := by decide +kernel
theorem dX0_makes_129 : decode cX0_makes 129 = .ok (.invokevirtual 74, 3) := by decide +kernel
theorem dX0_makes_132 : decode cX0_makes 132 = .ok (.checkcast 78, 3) := by decide +kernel
theorem dX0_makes_135 : decode cX0_makes 135 = .ok (.aload_n 0, 1) := by decide +kernel
theorem dX0_makes_136 : decode cX0_makes 136 = .ok (.getfield 19, 3) := by decide +kernel
theorem dX0_makes_139 : decode cX0_makes 139 = .ok (.iload_n 3, 1) := by decide +kernel
theorem dX0_makes_140 : decode cX0_makes 140 = .ok (.invokevirtual 74, 3) := by decide +kernel
theorem dX0_makes_143 : decode cX0_makes 143 = .ok (.checkcast 78, 3) := by decide +kernel
theorem dX0_makes_146 : decode cX0_makes 146 = .ok (.invokevirtual 184, 3) := by decide +kernel
theorem dX0_makes_149 : decode cX0_makes 149 = .ok (.ifCond .ne 6, 3) := by decide +kernel
theorem dX0_makes_152 : decode cX0_makes 152 = .ok (.goto 38, 3) := by decide +kernel
theorem dX0_makes_155 : decode cX0_makes 155 = .ok (.aload_n 0, 1) := by decide +kernel
theorem dX0_makes_156 : decode cX0_makes 156 = .ok (.getfield 46, 3) := by decide +kernel
theorem dX0_makes_159 : decode cX0_makes 159 = .ok (.iload_n 2, 1) := by decide +kernel
theorem dX0_makes_160 : decode cX0_makes 160 = .ok (.iaload, 1) := by decide +kernel
theorem dX0_makes_161 : decode cX0_makes 161 = .ok (.aload_n 0, 1) := by decide +kernel
theorem dX0_makes_162 : decode cX0_makes 162 = .ok (.getfield 46, 3) := by decide +kernel
theorem dX0_makes_165 : decode cX0_makes 165 = .ok (.iload_n 3, 1) := by decide +kernel
theorem dX0_makes_166 : decode cX0_makes 166 = .ok (.iaload, 1) := by decide +kernel
theorem dX0_makes_167 : decode cX0_makes 167 = .ok (.invokestatic 188, 3) := by decide +kernel
theorem dX0_makes_170 : decode cX0_makes 170 = .ok (.istore 4, 2) := by decide +kernel
theorem dX0_makes_172 : decode cX0_makes 172 = .ok (.aload_n 0, 1) := by decide +kernel
theorem dX0_makes_173 : decode cX0_makes 173 = .ok (.getfield 46, 3) := by decide +kernel
theorem dX0_makes_176 : decode cX0_makes 176 = .ok (.iload_n 2, 1) := by decide +kernel
theorem dX0_makes_177 : decode cX0_makes 177 = .ok (.iload 4, 2) := by decide +kernel
theorem dX0_makes_179 : decode cX0_makes 179 = .ok (.iastore, 1) := by decide +kernel
theorem dX0_makes_180 : decode cX0_makes 180 = .ok (.aload_n 0, 1) := by decide +kernel
theorem dX0_makes_181 : decode cX0_makes 181 = .ok (.getfield 46, 3) := by decide +kernel
theorem dX0_makes_184 : decode cX0_makes 184 = .ok (.iload_n 3, 1) := by decide +kernel
theorem dX0_makes_185 : decode cX0_makes 185 = .ok (.iload 4, 2) := by decide +kernel
theorem dX0_makes_187 : decode cX0_makes 187 = .ok (.iastore, 1) := by decide +kernel
theorem dX0_makes_188 : decode cX0_makes 188 = .ok (.iconst 1, 1) := by decide +kernel
theorem dX0_makes_189 : decode cX0_makes 189 = .ok (.istore_n 1, 1) := by decide +kernel
theorem dX0_makes_190 : decode cX0_makes 190 = .ok (.iinc 3 1, 3) := by decide +kernel
theorem dX0_makes_193 : decode cX0_makes 193 = .ok (.goto (-114), 3) := by decide +kernel
theorem dX0_makes_196 : decode cX0_makes 196 = .ok (.iinc 2 1, 3) := by decide +kernel
theorem dX0_makes_199 : decode cX0_makes 199 = .ok (.goto (-135), 3) := by decide +kernel
theorem dX0_makes_202 : decode cX0_makes 202 = .ok (.goto (-146), 3) := by decide +kernel
theorem dX0_makes_205 : decode cX0_makes 205 = .ok (.iconst 0, 1) := by decide +kernel
theorem dX0_makes_206 : decode cX0_makes 206 = .ok (.istore_n 2, 1) := by decide +kernel
theorem dX0_makes_207 : decode cX0_makes 207 = .ok (.iload_n 2, 1) := by decide +kernel
theorem dX0_makes_208 : decode cX0_makes 208 = .ok (.aload_n 0, 1) := by decide +kernel
theorem dX0_makes_209 : decode cX0_makes 209 = .ok (.getfield 19, 3) := by decide +kernel
theorem dX0_makes_212 : decode cX0_makes 212 = .ok (.invokevirtual 70, 3) := by decide +kernel
theorem dX0_makes_215 : decode cX0_makes 215 = .ok (.if_icmp .ge 32, 3) := by decide +kernel
theorem dX0_makes_218 : decode cX0_makes 218 = .ok (.aload_n 0, 1) := by decide +kernel
theorem dX0_makes_219 : decode cX0_makes 219 = .ok (.getfield 46, 3) := by decide +kernel
theorem dX0_makes_222 : decode cX0_makes 222 = .ok (.iload_n 2, 1) := by decide +kernel
theorem dX0_makes_223 : decode cX0_makes 223 = .ok (.iaload, 1) := by decide +kernel
theorem dX0_makes_224 : decode cX0_makes 224 = .ok (.iload_n 2, 1) := by decide +kernel
theorem dX0_makes_225 : decode cX0_makes 225 = .ok (.if_icmp .ne 16, 3) := by decide +kernel
theorem dX0_makes_228 : decode cX0_makes 228 = .ok (.aload_n 0, 1) := by decide +kernel
theorem dX0_makes_229 : decode cX0_makes 229 = .ok (.getfield 43, 3) := by decide +kernel
theorem dX0_makes_232 : decode cX0_makes 232 = .ok (.aload_n 0, 1) := by decide +kernel
theorem dX0_makes_233 : decode cX0_makes 233 = .ok (.iload_n 2, 1) := by decide +kernel
theorem dX0_makes_234 : decode cX0_makes 234 = .ok (.invokevirtual 191, 3) := by decide +kernel
theorem dX0_makes_237 : decode cX0_makes 237 = .ok (.invokevirtual 115, 3) := by decide +kernel
theorem dX0_makes_240 : decode cX0_makes 240 = .ok (.pop, 1) := by decide +kernel
theorem dX0_makes_241 : decode cX0_makes 241 = .ok (.iinc 2 1, 3) := by decide +kernel
theorem dX0_makes_244 : decode cX0_makes 244 = .ok (.goto (-37), 3) := by decide +kernel
theorem dX0_makes_247 : decode cX0_makes 247 = .ok (.iconst 1, 1) := by decide +kernel
theorem dX0_makes_248 : decode cX0_makes 248 = .ok (.istore_n 2, 1) := by decide +kernel
theorem dX0_makes_249 : decode cX0_makes 249 = .ok (.iload_n 2, 1) := by decide +kernel
theorem dX0_makes_250 : decode cX0_makes 250 = .ok (.aload_n 0, 1) := by decide +kernel
theorem dX0_makes_251 : decode cX0_makes 251 = .ok (.getfield 43, 3) := by decide +kernel
theorem dX0_makes_254 : decode cX0_makes 254 = .ok (.invokevirtual 70, 3) := by decide +kernel
theorem dX0_makes_257 : decode cX0_makes 257 = .ok (.if_icmp .ge 94, 3) := by decide +kernel
theorem dX0_makes_260 : decode cX0_makes 260 = .ok (.aload_n 0, 1) := by decide +kernel
theorem dX0_makes_261 : decode cX0_makes 261 = .ok (.getfield 43, 3) := by decide +kernel
theorem dX0_makes_264 : decode cX0_makes 264 = .ok (.iload_n 2, 1) := by decide +kernel
theorem dX0_makes_265 : decode cX0_makes 265 = .ok (.invokevirtual 74, 3) := by decide +kernel
theorem dX0_makes_268 : decode cX0_makes 268 = .ok (.checkcast 195, 3) := by decide +kernel
theorem dX0_makes_271 : decode cX0_makes 271 = .ok (.astore_n 3, 1) := by decide +kernel
theorem dX0_makes_272 : decode cX0_makes 272 = .ok (.iload_n 2, 1) := by decide +kernel
theorem dX0_makes_273 : decode cX0_makes 273 = .ok (.istore 4, 2) := by decide +kernel
theorem dX0_makes_275 : decode cX0_makes 275 = .ok (.iload 4, 2) := by decide +kernel
theorem dX0_makes_277 : decode cX0_makes 277 = .ok (.ifCond .le 57, 3) := by decide +kernel
theorem dX0_makes_280 : decode cX0_makes 280 = .ok (.aload_n 0, 1) := by decide +kernel
theorem dX0_makes_281 : decode cX0_makes 281 = .ok (.getfield 43, 3) := by decide +kernel
theorem dX0_makes_284 : decode cX0_makes 284 = .ok (.iload 4, 2) := by decide +kernel
theorem dX0_makes_286 : decode cX0_makes 286 = .ok (.iconst 1, 1) := by decide +kernel
theorem dX0_makes_287 : decode cX0_makes 287 = .ok (.isub, 1) := by decide +kernel
theorem dX0_makes_288 : decode cX0_makes 288 = .ok (.invokevirtual 74, 3) := by decide +kernel
theorem dX0_makes_291 : decode cX0_makes 291 = .ok (.checkcast 195, 3) := by decide +kernel
theorem dX0_makes_294 : decode cX0_makes 294 = .ok (.getfield 197, 3) := by decide +kernel
theorem dX0_makes_297 : decode cX0_makes 297 = .ok (.aload_n 3, 1) := by decide +kernel
theorem dX0_makes_298 : decode cX0_makes 298 = .ok (.getfield 197, 3) := by decide +kernel
theorem dX0_makes_301 : decode cX0_makes 301 = .ok (.if_icmp .ge 33, 3) := by decide +kernel
theorem dX0_makes_304 : decode cX0_makes 304 = .ok (.aload_n 0, 1) := by decide +kernel
theorem dX0_makes_305 : decode cX0_makes 305 = .ok (.getfield 43, 3) := by decide +kernel
theorem dX0_makes_308 : decode cX0_makes 308 = .ok (.iload 4, 2) := by decide +kernel
theorem dX0_makes_310 : decode cX0_makes 310 = .ok (.aload_n 0, 1) := by decide +kernel
theorem dX0_makes_311 : decode cX0_makes 311 = .ok (.getfield 43, 3) := by decide +kernel
theorem dX0_makes_314 : decode cX0_makes 314 = .ok (.iload 4, 2) := by decide +kernel
theorem dX0_makes_316 : decode cX0_makes 316 = .ok (.iconst 1, 1) := by decide +kernel
theorem dX0_makes_317 : decode cX0_makes 317 = .ok (.isub, 1) := by decide +kernel
theorem dX0_makes_318 : decode cX0_makes 318 = .ok (.invokevirtual 74, 3) := by decide +kernel
theorem dX0_makes_321 : decode cX0_makes 321 = .ok (.checkcast 195, 3) := by decide +kernel
theorem dX0_makes_324 : decode cX0_makes 324 = .ok (.invokevirtual 200, 3) := by decide +kernel
theorem dX0_makes_327 : decode cX0_makes 327 = .ok (.pop, 1) := by decide +kernel
theorem dX0_makes_328 : decode cX0_makes 328 = .ok (.iinc 4 (-1), 3) := by decide +kernel
theorem dX0_makes_331 : decode cX0_makes 331 = .ok (.goto (-56), 3) := by decide +kernel
theorem dX0_makes_334 : decode cX0_makes 334 = .ok (.aload_n 0, 1) := by decide +kernel
theorem dX0_makes_335 : decode cX0_makes 335 = .ok (.getfield 43, 3) := by decide +kernel
theorem dX0_makes_338 : decode cX0_makes 338 = .ok (.iload 4, 2) := by decide +kernel
theorem dX0_makes_340 : decode cX0_makes 340 = .ok (.aload_n 3, 1) := by decide +kernel
theorem dX0_makes_341 : decode cX0_makes 341 = .ok (.invokevirtual 200, 3) := by decide +kernel
theorem dX0_makes_344 : decode cX0_makes 344 = .ok (.pop, 1) := by decide +kernel
theorem dX0_makes_345 : decode cX0_makes 345 = .ok (.iinc 2 1, 3) := by decide +kernel
theorem dX0_makes_348 : decode cX0_makes 348 = .ok (.goto (-99), 3) := by decide +kernel
theorem dX0_makes_351 : decode cX0_makes 351 = .ok (.return_, 1) := by decide +kernel
theorem dX0_isTied_0 : decode cX0_isTied 0 = .ok (.aload_n 0, 1) := by decide +kernel
theorem dX0_isTied_1 : decode cX0_isTied 1 = .ok (.aload_n 1, 1) := by decide +kernel
theorem dX0_isTied_2 : decode cX0_isTied 2 = .ok (.getfield 169, 3) := by decide +kernel
theorem dX0_isTied_5 : decode cX0_isTied 5 = .ok (.aload_n 2, 1) := by decide +kernel
theorem dX0_isTied_6 : decode cX0_isTied 6 = .ok (.getfield 169, 3) := by decide +kernel
theorem dX0_isTied_9 : decode cX0_isTied 9 = .ok (.invokevirtual 166, 3) := by decide +kernel
theorem dX0_isTied_12 : decode cX0_isTied 12 = .ok (.istore_n 3, 1) := by decide +kernel
theorem dX0_isTied_13 : decode cX0_isTied 13 = .ok (.iload_n 3, 1) := by decide +kernel
theorem dX0_isTied_14 : decode cX0_isTied 14 = .ok (.ifCond .lt 12, 3) := by decide +kernel
theorem dX0_isTied_17 : decode cX0_isTied 17 = .ok (.aload_n 0, 1) := by decide +kernel
theorem dX0_isTied_18 : decode cX0_isTied 18 = .ok (.getfield 39, 3) := by decide +kernel
theorem dX0_isTied_21 : decode cX0_isTied 21 = .ok (.iload_n 3, 1) := by decide +kernel
theorem dX0_isTied_22 : decode cX0_isTied 22 = .ok (.baload, 1) := by decide +kernel
theorem dX0_isTied_23 : decode cX0_isTied 23 = .ok (.goto 36, 3) := by decide +kernel
theorem dX0_isTied_26 : decode cX0_isTied 26 = .ok (.aload_n 1, 1) := by decide +kernel
theorem dX0_isTied_27 : decode cX0_isTied 27 = .ok (.getfield 172, 3) := by decide +kernel
theorem dX0_isTied_30 : decode cX0_isTied 30 = .ok (.aload_n 2, 1) := by decide +kernel
theorem dX0_isTied_31 : decode cX0_isTied 31 = .ok (.getfield 172, 3) := by decide +kernel
theorem dX0_isTied_34 : decode cX0_isTied 34 = .ok (.if_icmp .ne 24, 3) := by decide +kernel
theorem dX0_isTied_37 : decode cX0_isTied 37 = .ok (.aload_n 1, 1) := by decide +kernel
theorem dX0_isTied_38 : decode cX0_isTied 38 = .ok (.getfield 90, 3) := by decide +kernel
theorem dX0_isTied_41 : decode cX0_isTied 41 = .ok (.aload_n 2, 1) := by decide +kernel
theorem dX0_isTied_42 : decode cX0_isTied 42 = .ok (.getfield 90, 3) := by decide +kernel
theorem dX0_isTied_45 : decode cX0_isTied 45 = .ok (.isub, 1) := by decide +kernel
theorem dX0_isTied_46 : decode cX0_isTied 46 = .ok (.invokestatic 175, 3) := by decide +kernel
theorem dX0_isTied_49 : decode cX0_isTied 49 = .ok (.bipush 20, 2) := by decide +kernel
theorem dX0_isTied_51 : decode cX0_isTied 51 = .ok (.if_icmp .gt 7, 3) := by decide +kernel
theorem dX0_isTied_54 : decode cX0_isTied 54 = .ok (.iconst 1, 1) := by decide +kernel
theorem dX0_isTied_55 : decode cX0_isTied 55 = .ok (.goto 4, 3) := by decide +kernel
theorem dX0_isTied_58 : decode cX0_isTied 58 = .ok (.iconst 0, 1) := by decide +kernel
theorem dX0_isTied_59 : decode cX0_isTied 59 = .ok (.ireturn, 1) := by decide +kernel
theorem dX0_gather_0 : decode cX0_gather 0 = .ok (.new 195, 3) := by decide +kernel
theorem dX0_gather_3 : decode cX0_gather 3 = .ok (.dup, 1) := by decide +kernel
theorem dX0_gather_4 : decode cX0_gather 4 = .ok (.invokespecial 204, 3) := by decide +kernel
theorem dX0_gather_7 : decode cX0_gather 7 = .ok (.astore_n 2, 1) := by decide +kernel
theorem dX0_gather_8 : decode cX0_gather 8 = .ok (.iconst 0, 1) := by decide +kernel
theorem dX0_gather_9 : decode cX0_gather 9 = .ok (.istore_n 3, 1) := by decide +kernel
theorem dX0_gather_10 : decode cX0_gather 10 = .ok (.iload_n 3, 1) := by decide +kernel
theorem dX0_gather_11 : decode cX0_gather 11 = .ok (.aload_n 0, 1) := by decide +kernel
theorem dX0_gather_12 : decode cX0_gather 12 = .ok (.getfield 19, 3) := by decide +kernel
theorem dX0_gather_15 : decode cX0_gather 15 = .ok (.invokevirtual 70, 3) := by decide +kernel
theorem dX0_gather_18 : decode cX0_gather 18 = .ok (.if_icmp .ge 87, 3) := by decide +kernel
theorem dX0_gather_21 : decode cX0_gather 21 = .ok (.aload_n 0, 1) := by decide +kernel
theorem dX0_gather_22 : decode cX0_gather 22 = .ok (.getfield 46, 3) := by decide +kernel
theorem dX0_gather_25 : decode cX0_gather 25 = .ok (.iload_n 3, 1) := by decide +kernel
theorem dX0_gather_26 : decode cX0_gather 26 = .ok (.iaload, 1) := by decide +kernel
theorem dX0_gather_27 : decode cX0_gather 27 = .ok (.iload_n 1, 1) := by decide +kernel
theorem dX0_gather_28 : decode cX0_gather 28 = .ok (.if_icmp .eq 6, 3) := by decide +kernel
theorem dX0_gather_31 : decode cX0_gather 31 = .ok (.goto 68, 3) := by decide +kernel
theorem dX0_gather_34 : decode cX0_gather 34 = .ok (.aload_n 0, 1) := by decide +kernel
theorem dX0_gather_35 : decode cX0_gather 35 = .ok (.getfield 19, 3) := by decide +kernel
theorem dX0_gather_38 : decode cX0_gather 38 = .ok (.iload_n 3, 1) := by decide +kernel
theorem dX0_gather_39 : decode cX0_gather 39 = .ok (.invokevirtual 74, 3) := by decide +kernel
theorem dX0_gather_42 : decode cX0_gather 42 = .ok (.checkcast 78, 3) := by decide +kernel
theorem dX0_gather_45 : decode cX0_gather 45 = .ok (.astore 4, 2) := by decide +kernel
theorem dX0_gather_47 : decode cX0_gather 47 = .ok (.aload_n 2, 1) := by decide +kernel
theorem dX0_gather_48 : decode cX0_gather 48 = .ok (.getfield 205, 3) := by decide +kernel
theorem dX0_gather_51 : decode cX0_gather 51 = .ok (.aload 4, 2) := by decide +kernel
theorem dX0_gather_53 : decode cX0_gather 53 = .ok (.invokevirtual 115, 3) := by decide +kernel
theorem dX0_gather_56 : decode cX0_gather 56 = .ok (.pop, 1) := by decide +kernel
theorem dX0_gather_57 : decode cX0_gather 57 = .ok (.aload_n 2, 1) := by decide +kernel
theorem dX0_gather_58 : decode cX0_gather 58 = .ok (.aload_n 2, 1) := by decide +kernel
theorem dX0_gather_59 : decode cX0_gather 59 = .ok (.getfield 197, 3) := by decide +kernel
theorem dX0_gather_62 : decode cX0_gather 62 = .ok (.aload_n 0, 1) := by decide +kernel
theorem dX0_gather_63 : decode cX0_gather 63 = .ok (.aload 4, 2) := by decide +kernel
theorem dX0_gather_65 : decode cX0_gather 65 = .ok (.invokevirtual 206, 3) := by decide +kernel
theorem dX0_gather_68 : decode cX0_gather 68 = .ok (.invokestatic 209, 3) := by decide +kernel
theorem dX0_gather_71 : decode cX0_gather 71 = .ok (.putfield 197, 3) := by decide +kernel
theorem dX0_gather_74 : decode cX0_gather 74 = .ok (.aload_n 2, 1) := by decide +kernel
theorem dX0_gather_75 : decode cX0_gather 75 = .ok (.aload_n 2, 1) := by decide +kernel
theorem dX0_gather_76 : decode cX0_gather 76 = .ok (.getfield 212, 3) := by decide +kernel
theorem dX0_gather_79 : decode cX0_gather 79 = .ok (.ifCond .ne 12, 3) := by decide +kernel
theorem dX0_gather_82 : decode cX0_gather 82 = .ok (.aload_n 0, 1) := by decide +kernel
theorem dX0_gather_83 : decode cX0_gather 83 = .ok (.aload 4, 2) := by decide +kernel
theorem dX0_gather_85 : decode cX0_gather 85 = .ok (.invokevirtual 152, 3) := by decide +kernel
theorem dX0_gather_88 : decode cX0_gather 88 = .ok (.ifCond .ne 7, 3) := by decide +kernel
theorem dX0_gather_91 : decode cX0_gather 91 = .ok (.iconst 1, 1) := by decide +kernel
theorem dX0_gather_92 : decode cX0_gather 92 = .ok (.goto 4, 3) := by decide +kernel
theorem dX0_gather_95 : decode cX0_gather 95 = .ok (.iconst 0, 1) := by decide +kernel
theorem dX0_gather_96 : decode cX0_gather 96 = .ok (.putfield 212, 3) := by decide +kernel
theorem dX0_gather_99 : decode cX0_gather 99 = .ok (.iinc 3 1, 3) := by decide +kernel
theorem dX0_gather_102 : decode cX0_gather 102 = .ok (.goto (-92), 3) := by decide +kernel
theorem dX0_gather_105 : decode cX0_gather 105 = .ok (.aload_n 2, 1) := by decide +kernel
theorem dX0_gather_106 : decode cX0_gather 106 = .ok (.areturn, 1) := by decide +kernel
theorem dX0_order_0 : decode cX0_order 0 = .ok (.aload_n 0, 1) := by decide +kernel
theorem dX0_order_1 : decode cX0_order 1 = .ok (.invokevirtual 215, 3) := by decide +kernel
theorem dX0_order_4 : decode cX0_order 4 = .ok (.iload_n 1, 1) := by decide +kernel
theorem dX0_order_5 : decode cX0_order 5 = .ok (.iconst 0, 1) := by decide +kernel
theorem dX0_order_6 : decode cX0_order 6 = .ok (.aload_n 0, 1) := by decide +kernel
theorem dX0_order_7 : decode cX0_order 7 = .ok (.getfield 43, 3) := by decide +kernel
theorem dX0_order_10 : decode cX0_order 10 = .ok (.invokevirtual 70, 3) := by decide +kernel
theorem dX0_order_13 : decode cX0_order 13 = .ok (.iconst 1, 1) := by decide +kernel
theorem dX0_order_14 : decode cX0_order 14 = .ok (.isub, 1) := by decide +kernel
theorem dX0_order_15 : decode cX0_order 15 = .ok (.invokestatic 60, 3) := by decide +kernel
theorem dX0_order_18 : decode cX0_order 18 = .ok (.ifCond .eq 20, 3) := by decide +kernel
theorem dX0_order_21 : decode cX0_order 21 = .ok (.aload_n 0, 1) := by decide +kernel
theorem dX0_order_22 : decode cX0_order 22 = .ok (.getfield 43, 3) := by decide +kernel
theorem dX0_order_25 : decode cX0_order 25 = .ok (.iload_n 1, 1) := by decide +kernel
theorem dX0_order_26 : decode cX0_order 26 = .ok (.invokevirtual 74, 3) := by decide +kernel
theorem dX0_order_29 : decode cX0_order 29 = .ok (.checkcast 195, 3) := by decide +kernel
theorem dX0_order_32 : decode cX0_order 32 = .ok (.invokevirtual 218, 3) := by decide +kernel
theorem dX0_order_35 : decode cX0_order 35 = .ok (.goto 4, 3) := by decide +kernel
theorem dX0_order_38 : decode cX0_order 38 = .ok (.iconst (-1), 1) := by decide +kernel
theorem dX0_order_39 : decode cX0_order 39 = .ok (.ireturn, 1) := by decide +kernel
theorem dX0_caseOf_0 : decode cX0_caseOf 0 = .ok (.aload_n 0, 1) := by decide +kernel
theorem dX0_caseOf_1 : decode cX0_caseOf 1 = .ok (.iload_n 1, 1) := by decide +kernel
theorem dX0_caseOf_2 : decode cX0_caseOf 2 = .ok (.invokevirtual 226, 3) := by decide +kernel
theorem dX0_caseOf_5 : decode cX0_caseOf 5 = .ok (.astore_n 3, 1) := by decide +kernel
theorem dX0_caseOf_6 : decode cX0_caseOf 6 = .ok (.aload_n 3, 1) := by decide +kernel
theorem dX0_caseOf_7 : decode cX0_caseOf 7 = .ok (.ifnonnull 5, 3) := by decide +kernel
theorem dX0_caseOf_10 : decode cX0_caseOf 10 = .ok (.iconst (-1), 1) := by decide +kernel
theorem dX0_caseOf_11 : decode cX0_caseOf 11 = .ok (.ireturn, 1) := by decide +kernel
theorem dX0_caseOf_12 : decode cX0_caseOf 12 = .ok (.iload_n 2, 1) := by decide +kernel
theorem dX0_caseOf_13 : decode cX0_caseOf 13 = .ok (.tableswitch 62 0 3 #[31, 39, 44, 49], 31) := by decide +kernel
theorem dX0_caseOf_44 : decode cX0_caseOf 44 = .ok (.aload_n 3, 1) := by decide +kernel
theorem dX0_caseOf_45 : decode cX0_caseOf 45 = .ok (.getfield 205, 3) := by decide +kernel
theorem dX0_caseOf_48 : decode cX0_caseOf 48 = .ok (.invokevirtual 70, 3) := by decide +kernel
theorem dX0_caseOf_51 : decode cX0_caseOf 51 = .ok (.ireturn, 1) := by decide +kernel
theorem dX0_caseOf_52 : decode cX0_caseOf 52 = .ok (.aload_n 3, 1) := by decide +kernel
theorem dX0_caseOf_53 : decode cX0_caseOf 53 = .ok (.getfield 197, 3) := by decide +kernel
theorem dX0_caseOf_56 : decode cX0_caseOf 56 = .ok (.ireturn, 1) := by decide +kernel
theorem dX0_caseOf_57 : decode cX0_caseOf 57 = .ok (.aload_n 3, 1) := by decide +kernel
theorem dX0_caseOf_58 : decode cX0_caseOf 58 = .ok (.invokevirtual 229, 3) := by decide +kernel
theorem dX0_caseOf_61 : decode cX0_caseOf 61 = .ok (.ireturn, 1) := by decide +kernel
theorem dX0_caseOf_62 : decode cX0_caseOf 62 = .ok (.aload_n 3, 1) := by decide +kernel
theorem dX0_caseOf_63 : decode cX0_caseOf 63 = .ok (.getfield 212, 3) := by decide +kernel
theorem dX0_caseOf_66 : decode cX0_caseOf 66 = .ok (.ifCond .eq 7, 3) := by decide +kernel
theorem dX0_caseOf_69 : decode cX0_caseOf 69 = .ok (.iconst 1, 1) := by decide +kernel
theorem dX0_caseOf_70 : decode cX0_caseOf 70 = .ok (.goto 4, 3) := by decide +kernel
theorem dX0_caseOf_73 : decode cX0_caseOf 73 = .ok (.iconst 0, 1) := by decide +kernel
theorem dX0_caseOf_74 : decode cX0_caseOf 74 = .ok (.ireturn, 1) := by decide +kernel
theorem dX0_caseOf_75 : decode cX0_caseOf 75 = .ok (.iload_n 2, 1) := by decide +kernel
theorem dX0_caseOf_76 : decode cX0_caseOf 76 = .ok (.bipush 10, 2) := by decide +kernel
theorem dX0_caseOf_78 : decode cX0_caseOf 78 = .ok (.bipush 9, 2) := by decide +kernel
theorem dX0_caseOf_80 : decode cX0_caseOf 80 = .ok (.aload_n 3, 1) := by decide +kernel
theorem dX0_caseOf_81 : decode cX0_caseOf 81 = .ok (.getfield 205, 3) := by decide +kernel
theorem dX0_caseOf_84 : decode cX0_caseOf 84 = .ok (.invokevirtual 70, 3) := by decide +kernel
theorem dX0_caseOf_87 : decode cX0_caseOf 87 = .ok (.iadd, 1) := by decide +kernel
theorem dX0_caseOf_88 : decode cX0_caseOf 88 = .ok (.invokestatic 60, 3) := by decide +kernel
theorem dX0_caseOf_91 : decode cX0_caseOf 91 = .ok (.ifCond .eq 23, 3) := by decide +kernel
theorem dX0_caseOf_94 : decode cX0_caseOf 94 = .ok (.aload_n 3, 1) := by decide +kernel
theorem dX0_caseOf_95 : decode cX0_caseOf 95 = .ok (.getfield 205, 3) := by decide +kernel
theorem dX0_caseOf_98 : decode cX0_caseOf 98 = .ok (.iload_n 2, 1) := by decide +kernel
theorem dX0_caseOf_99 : decode cX0_caseOf 99 = .ok (.bipush 10, 2) := by decide +kernel
theorem dX0_caseOf_101 : decode cX0_caseOf 101 = .ok (.isub, 1) := by decide +kernel
theorem dX0_caseOf_102 : decode cX0_caseOf 102 = .ok (.invokevirtual 74, 3) := by decide +kernel
theorem dX0_caseOf_105 : decode cX0_caseOf 105 = .ok (.checkcast 78, 3) := by decide +kernel
theorem dX0_caseOf_108 : decode cX0_caseOf 108 = .ok (.getfield 169, 3) := by decide +kernel
theorem dX0_caseOf_111 : decode cX0_caseOf 111 = .ok (.goto 4, 3) := by decide +kernel
theorem dX0_caseOf_114 : decode cX0_caseOf 114 = .ok (.iconst (-1), 1) := by decide +kernel
theorem dX0_caseOf_115 : decode cX0_caseOf 115 = .ok (.ireturn, 1) := by decide +kernel
theorem dX0_find_0 : decode cX0_find 0 = .ok (.aload_n 0, 1) := by decide +kernel
theorem dX0_find_1 : decode cX0_find 1 = .ok (.invokevirtual 215, 3) := by decide +kernel
theorem dX0_find_4 : decode cX0_find 4 = .ok (.iconst 0, 1) := by decide +kernel
theorem dX0_find_5 : decode cX0_find 5 = .ok (.istore_n 2, 1) := by decide +kernel
theorem dX0_find_6 : decode cX0_find 6 = .ok (.iload_n 2, 1) := by decide +kernel
theorem dX0_find_7 : decode cX0_find 7 = .ok (.aload_n 0, 1) := by decide +kernel
theorem dX0_find_8 : decode cX0_find 8 = .ok (.getfield 43, 3) := by decide +kernel
theorem dX0_find_11 : decode cX0_find 11 = .ok (.invokevirtual 70, 3) := by decide +kernel
theorem dX0_find_14 : decode cX0_find 14 = .ok (.if_icmp .ge 39, 3) := by decide +kernel
theorem dX0_find_17 : decode cX0_find 17 = .ok (.aload_n 0, 1) := by decide +kernel
theorem dX0_find_18 : decode cX0_find 18 = .ok (.getfield 43, 3) := by decide +kernel
theorem dX0_find_21 : decode cX0_find 21 = .ok (.iload_n 2, 1) := by decide +kernel
theorem dX0_find_22 : decode cX0_find 22 = .ok (.invokevirtual 74, 3) := by decide +kernel
theorem dX0_find_25 : decode cX0_find 25 = .ok (.checkcast 195, 3) := by decide +kernel
theorem dX0_find_28 : decode cX0_find 28 = .ok (.invokevirtual 218, 3) := by decide +kernel
theorem dX0_find_31 : decode cX0_find 31 = .ok (.iload_n 1, 1) := by decide +kernel
theorem dX0_find_32 : decode cX0_find 32 = .ok (.if_icmp .ne 15, 3) := by decide +kernel
theorem dX0_find_35 : decode cX0_find 35 = .ok (.aload_n 0, 1) := by decide +kernel
theorem dX0_find_36 : decode cX0_find 36 = .ok (.getfield 43, 3) := by decide +kernel
theorem dX0_find_39 : decode cX0_find 39 = .ok (.iload_n 2, 1) := by decide +kernel
theorem dX0_find_40 : decode cX0_find 40 = .ok (.invokevirtual 74, 3) := by decide +kernel
theorem dX0_find_43 : decode cX0_find 43 = .ok (.checkcast 195, 3) := by decide +kernel
theorem dX0_find_46 : decode cX0_find 46 = .ok (.areturn, 1) := by decide +kernel
theorem dX0_find_47 : decode cX0_find 47 = .ok (.iinc 2 1, 3) := by decide +kernel
theorem dX0_find_50 : decode cX0_find 50 = .ok (.goto (-44), 3) := by decide +kernel
theorem dX0_find_53 : decode cX0_find 53 = .ok (.aconst_null, 1) := by decide +kernel
theorem dX0_find_54 : decode cX0_find 54 = .ok (.areturn, 1) := by decide +kernel
theorem dX0_slow_0 : decode cX0_slow 0 = .ok (.iload_n 1, 1) := by decide +kernel
theorem dX0_slow_1 : decode cX0_slow 1 = .ok (.iconst 0, 1) := by decide +kernel
theorem dX0_slow_2 : decode cX0_slow 2 = .ok (.bipush 39, 2) := by decide +kernel
theorem dX0_slow_4 : decode cX0_slow 4 = .ok (.invokestatic 60, 3) := by decide +kernel
theorem dX0_slow_7 : decode cX0_slow 7 = .ok (.ifCond .ne 5, 3) := by decide +kernel
theorem dX0_slow_10 : decode cX0_slow 10 = .ok (.iconst (-1), 1) := by decide +kernel
theorem dX0_slow_11 : decode cX0_slow 11 = .ok (.ireturn, 1) := by decide +kernel
theorem dX0_slow_12 : decode cX0_slow 12 = .ok (.iconst 0, 1) := by decide +kernel
theorem dX0_slow_13 : decode cX0_slow 13 = .ok (.istore_n 2, 1) := by decide +kernel
theorem dX0_slow_14 : decode cX0_slow 14 = .ok (.iconst 0, 1) := by decide +kernel
theorem dX0_slow_15 : decode cX0_slow 15 = .ok (.istore_n 3, 1) := by decide +kernel
theorem dX0_slow_16 : decode cX0_slow 16 = .ok (.iload_n 3, 1) := by decide +kernel
theorem dX0_slow_17 : decode cX0_slow 17 = .ok (.aload_n 0, 1) := by decide +kernel
theorem dX0_slow_18 : decode cX0_slow 18 = .ok (.getfield 19, 3) := by decide +kernel
theorem dX0_slow_21 : decode cX0_slow 21 = .ok (.invokevirtual 70, 3) := by decide +kernel
theorem dX0_slow_24 : decode cX0_slow 24 = .ok (.if_icmp .ge 81, 3) := by decide +kernel
theorem dX0_slow_27 : decode cX0_slow 27 = .ok (.aload_n 0, 1) := by decide +kernel
theorem dX0_slow_28 : decode cX0_slow 28 = .ok (.getfield 19, 3) := by decide +kernel
theorem dX0_slow_31 : decode cX0_slow 31 = .ok (.iload_n 3, 1) := by decide +kernel
theorem dX0_slow_32 : decode cX0_slow 32 = .ok (.invokevirtual 74, 3) := by decide +kernel
theorem dX0_slow_35 : decode cX0_slow 35 = .ok (.checkcast 78, 3) := by decide +kernel
theorem dX0_slow_38 : decode cX0_slow 38 = .ok (.astore 4, 2) := by decide +kernel
theorem dX0_slow_40 : decode cX0_slow 40 = .ok (.aload 4, 2) := by decide +kernel
theorem dX0_slow_42 : decode cX0_slow 42 = .ok (.getfield 172, 3) := by decide +kernel
theorem dX0_slow_45 : decode cX0_slow 45 = .ok (.iload_n 1, 1) := by decide +kernel
theorem dX0_slow_46 : decode cX0_slow 46 = .ok (.if_icmp .ne 53, 3) := by decide +kernel
theorem dX0_slow_49 : decode cX0_slow 49 = .ok (.aload 4, 2) := by decide +kernel
theorem dX0_slow_51 : decode cX0_slow 51 = .ok (.invokevirtual 96, 3) := by decide +kernel
theorem dX0_slow_54 : decode cX0_slow 54 = .ok (.ifCond .eq 45, 3) := by decide +kernel
theorem dX0_slow_57 : decode cX0_slow 57 = .ok (.aload 4, 2) := by decide +kernel
theorem dX0_slow_59 : decode cX0_slow 59 = .ok (.getfield 90, 3) := by decide +kernel
theorem dX0_slow_62 : decode cX0_slow 62 = .ok (.aload_n 0, 1) := by decide +kernel
theorem dX0_slow_63 : decode cX0_slow 63 = .ok (.getfield 64, 3) := by decide +kernel
theorem dX0_slow_66 : decode cX0_slow 66 = .ok (.sipush 200, 3) := by decide +kernel
theorem dX0_slow_69 : decode cX0_slow 69 = .ok (.isub, 1) := by decide +kernel
theorem dX0_slow_70 : decode cX0_slow 70 = .ok (.if_icmp .gt 6, 3) := by decide +kernel
theorem dX0_slow_73 : decode cX0_slow 73 = .ok (.goto 26, 3) := by decide +kernel
theorem dX0_slow_76 : decode cX0_slow 76 = .ok (.aload_n 0, 1) := by decide +kernel
theorem dX0_slow_77 : decode cX0_slow 77 = .ok (.aload 4, 2) := by decide +kernel
theorem dX0_slow_79 : decode cX0_slow 79 = .ok (.invokevirtual 206, 3) := by decide +kernel
theorem dX0_slow_82 : decode cX0_slow 82 = .ok (.istore 5, 2) := by decide +kernel
theorem dX0_slow_84 : decode cX0_slow 84 = .ok (.iload 5, 2) := by decide +kernel
theorem dX0_slow_86 : decode cX0_slow 86 = .ok (.sipush 10000, 3) := by decide +kernel
theorem dX0_slow_89 : decode cX0_slow 89 = .ok (.if_icmp .lt 5, 3) := by decide +kernel
theorem dX0_slow_92 : decode cX0_slow 92 = .ok (.iconst (-1), 1) := by decide +kernel
theorem dX0_slow_93 : decode cX0_slow 93 = .ok (.ireturn, 1) := by decide +kernel
theorem dX0_slow_94 : decode cX0_slow 94 = .ok (.iload_n 2, 1) := by decide +kernel
theorem dX0_slow_95 : decode cX0_slow 95 = .ok (.iload 5, 2) := by decide +kernel
theorem dX0_slow_97 : decode cX0_slow 97 = .ok (.iadd, 1) := by decide +kernel
theorem dX0_slow_98 : decode cX0_slow 98 = .ok (.istore_n 2, 1) := by decide +kernel
theorem dX0_slow_99 : decode cX0_slow 99 = .ok (.iinc 3 1, 3) := by decide +kernel
theorem dX0_slow_102 : decode cX0_slow 102 = .ok (.goto (-86), 3) := by decide +kernel
theorem dX0_slow_105 : decode cX0_slow 105 = .ok (.iload_n 2, 1) := by decide +kernel
theorem dX0_slow_106 : decode cX0_slow 106 = .ok (.sipush 30000, 3) := by decide +kernel
theorem dX0_slow_109 : decode cX0_slow 109 = .ok (.if_icmp .le 7, 3) := by decide +kernel
theorem dX0_slow_112 : decode cX0_slow 112 = .ok (.iload_n 2, 1) := by decide +kernel
theorem dX0_slow_113 : decode cX0_slow 113 = .ok (.goto 4, 3) := by decide +kernel
theorem dX0_slow_116 : decode cX0_slow 116 = .ok (.iconst (-1), 1) := by decide +kernel
theorem dX0_slow_117 : decode cX0_slow 117 = .ok (.ireturn, 1) := by decide +kernel
theorem dX0_plan_0 : decode cX0_plan 0 = .ok (.iload_n 1, 1) := by decide +kernel
theorem dX0_plan_1 : decode cX0_plan 1 = .ok (.iconst 0, 1) := by decide +kernel
theorem dX0_plan_2 : decode cX0_plan 2 = .ok (.sipush 300, 3) := by decide +kernel
theorem dX0_plan_5 : decode cX0_plan 5 = .ok (.invokestatic 60, 3) := by decide +kernel
theorem dX0_plan_8 : decode cX0_plan 8 = .ok (.ifCond .ne 5, 3) := by decide +kernel
theorem dX0_plan_11 : decode cX0_plan 11 = .ok (.iconst (-1), 1) := by decide +kernel
theorem dX0_plan_12 : decode cX0_plan 12 = .ok (.ireturn, 1) := by decide +kernel
theorem dX0_plan_13 : decode cX0_plan 13 = .ok (.aload_n 0, 1) := by decide +kernel
theorem dX0_plan_14 : decode cX0_plan 14 = .ok (.iload_n 1, 1) := by decide +kernel
theorem dX0_plan_15 : decode cX0_plan 15 = .ok (.invokevirtual 238, 3) := by decide +kernel
theorem dX0_plan_18 : decode cX0_plan 18 = .ok (.iload_n 2, 1) := by decide +kernel
theorem dX0_plan_19 : decode cX0_plan 19 = .ok (.iconst (-1), 1) := by decide +kernel
theorem dX0_plan_20 : decode cX0_plan 20 = .ok (.if_icmp .ne 13, 3) := by decide +kernel
theorem dX0_plan_23 : decode cX0_plan 23 = .ok (.aload_n 0, 1) := by decide +kernel
theorem dX0_plan_24 : decode cX0_plan 24 = .ok (.getfield 49, 3) := by decide +kernel
theorem dX0_plan_27 : decode cX0_plan 27 = .ok (.invokevirtual 70, 3) := by decide +kernel
theorem dX0_plan_30 : decode cX0_plan 30 = .ok (.goto 38, 3) := by decide +kernel
theorem dX0_plan_33 : decode cX0_plan 33 = .ok (.iload_n 2, 1) := by decide +kernel
theorem dX0_plan_34 : decode cX0_plan 34 = .ok (.iconst 0, 1) := by decide +kernel
theorem dX0_plan_35 : decode cX0_plan 35 = .ok (.aload_n 0, 1) := by decide +kernel
theorem dX0_plan_36 : decode cX0_plan 36 = .ok (.getfield 49, 3) := by decide +kernel
theorem dX0_plan_39 : decode cX0_plan 39 = .ok (.invokevirtual 70, 3) := by decide +kernel
theorem dX0_plan_42 : decode cX0_plan 42 = .ok (.iconst 1, 1) := by decide +kernel
theorem dX0_plan_43 : decode cX0_plan 43 = .ok (.isub, 1) := by decide +kernel
theorem dX0_plan_44 : decode cX0_plan 44 = .ok (.invokestatic 60, 3) := by decide +kernel
theorem dX0_plan_47 : decode cX0_plan 47 = .ok (.ifCond .eq 20, 3) := by decide +kernel
theorem dX0_plan_50 : decode cX0_plan 50 = .ok (.aload_n 0, 1) := by decide +kernel
theorem dX0_plan_51 : decode cX0_plan 51 = .ok (.getfield 49, 3) := by decide +kernel
theorem dX0_plan_54 : decode cX0_plan 54 = .ok (.iload_n 2, 1) := by decide +kernel
theorem dX0_plan_55 : decode cX0_plan 55 = .ok (.invokevirtual 74, 3) := by decide +kernel
theorem dX0_plan_58 : decode cX0_plan 58 = .ok (.checkcast 195, 3) := by decide +kernel
theorem dX0_plan_61 : decode cX0_plan 61 = .ok (.invokevirtual 218, 3) := by decide +kernel
theorem dX0_plan_64 : decode cX0_plan 64 = .ok (.goto 4, 3) := by decide +kernel
theorem dX0_plan_67 : decode cX0_plan 67 = .ok (.iconst (-1), 1) := by decide +kernel
theorem dX0_plan_68 : decode cX0_plan 68 = .ok (.ireturn, 1) := by decide +kernel
theorem dX0_plans_0 : decode cX0_plans 0 = .ok (.aload_n 0, 1) := by decide +kernel
theorem dX0_plans_1 : decode cX0_plans 1 = .ok (.invokevirtual 215, 3) := by decide +kernel
theorem dX0_plans_4 : decode cX0_plans 4 = .ok (.aload_n 0, 1) := by decide +kernel
theorem dX0_plans_5 : decode cX0_plans 5 = .ok (.getfield 49, 3) := by decide +kernel
theorem dX0_plans_8 : decode cX0_plans 8 = .ok (.invokevirtual 181, 3) := by decide +kernel
theorem dX0_plans_11 : decode cX0_plans 11 = .ok (.aload_n 0, 1) := by decide +kernel
theorem dX0_plans_12 : decode cX0_plans 12 = .ok (.getfield 52, 3) := by decide +kernel
theorem dX0_plans_15 : decode cX0_plans 15 = .ok (.invokevirtual 181, 3) := by decide +kernel
theorem dX0_plans_18 : decode cX0_plans 18 = .ok (.aload_n 0, 1) := by decide +kernel
theorem dX0_plans_19 : decode cX0_plans 19 = .ok (.iload_n 1, 1) := by decide +kernel
theorem dX0_plans_20 : decode cX0_plans 20 = .ok (.putfield 232, 3) := by decide +kernel
theorem dX0_plans_23 : decode cX0_plans 23 = .ok (.iconst 0, 1) := by decide +kernel
theorem dX0_plans_24 : decode cX0_plans 24 = .ok (.istore_n 2, 1) := by decide +kernel
theorem dX0_plans_25 : decode cX0_plans 25 = .ok (.iload_n 2, 1) := by decide +kernel
theorem dX0_plans_26 : decode cX0_plans 26 = .ok (.aload_n 0, 1) := by decide +kernel
theorem dX0_plans_27 : decode cX0_plans 27 = .ok (.getfield 43, 3) := by decide +kernel
theorem dX0_plans_30 : decode cX0_plans 30 = .ok (.invokevirtual 70, 3) := by decide +kernel
theorem dX0_plans_33 : decode cX0_plans 33 = .ok (.if_icmp .ge 87, 3) := by decide +kernel
theorem dX0_plans_36 : decode cX0_plans 36 = .ok (.aload_n 0, 1) := by decide +kernel
theorem dX0_plans_37 : decode cX0_plans 37 = .ok (.getfield 43, 3) := by decide +kernel
theorem dX0_plans_40 : decode cX0_plans 40 = .ok (.iload_n 2, 1) := by decide +kernel
theorem dX0_plans_41 : decode cX0_plans 41 = .ok (.invokevirtual 74, 3) := by decide +kernel
theorem dX0_plans_44 : decode cX0_plans 44 = .ok (.checkcast 195, 3) := by decide +kernel
theorem dX0_plans_47 : decode cX0_plans 47 = .ok (.astore_n 3, 1) := by decide +kernel
theorem dX0_plans_48 : decode cX0_plans 48 = .ok (.aload_n 3, 1) := by decide +kernel
theorem dX0_plans_49 : decode cX0_plans 49 = .ok (.getfield 212, 3) := by decide +kernel
theorem dX0_plans_52 : decode cX0_plans 52 = .ok (.ifCond .eq 53, 3) := by decide +kernel
theorem dX0_plans_55 : decode cX0_plans 55 = .ok (.aload_n 0, 1) := by decide +kernel
theorem dX0_plans_56 : decode cX0_plans 56 = .ok (.getfield 49, 3) := by decide +kernel
theorem dX0_plans_59 : decode cX0_plans 59 = .ok (.invokevirtual 70, 3) := by decide +kernel
theorem dX0_plans_62 : decode cX0_plans 62 = .ok (.aload_n 0, 1) := by decide +kernel
theorem dX0_plans_63 : decode cX0_plans 63 = .ok (.getfield 67, 3) := by decide +kernel
theorem dX0_plans_66 : decode cX0_plans 66 = .ok (.if_icmp .ge 39, 3) := by decide +kernel
theorem dX0_plans_69 : decode cX0_plans 69 = .ok (.aload_n 3, 1) := by decide +kernel
theorem dX0_plans_70 : decode cX0_plans 70 = .ok (.invokevirtual 229, 3) := by decide +kernel
theorem dX0_plans_73 : decode cX0_plans 73 = .ok (.aload_n 0, 1) := by decide +kernel
theorem dX0_plans_74 : decode cX0_plans 74 = .ok (.getfield 232, 3) := by decide +kernel
theorem dX0_plans_77 : decode cX0_plans 77 = .ok (.if_icmp .gt 28, 3) := by decide +kernel
theorem dX0_plans_80 : decode cX0_plans 80 = .ok (.aload_n 0, 1) := by decide +kernel
theorem dX0_plans_81 : decode cX0_plans 81 = .ok (.getfield 49, 3) := by decide +kernel
theorem dX0_plans_84 : decode cX0_plans 84 = .ok (.aload_n 3, 1) := by decide +kernel
theorem dX0_plans_85 : decode cX0_plans 85 = .ok (.invokevirtual 115, 3) := by decide +kernel
theorem dX0_plans_88 : decode cX0_plans 88 = .ok (.pop, 1) := by decide +kernel
theorem dX0_plans_89 : decode cX0_plans 89 = .ok (.aload_n 0, 1) := by decide +kernel
theorem dX0_plans_90 : decode cX0_plans 90 = .ok (.dup, 1) := by decide +kernel
theorem dX0_plans_91 : decode cX0_plans 91 = .ok (.getfield 232, 3) := by decide +kernel
theorem dX0_plans_94 : decode cX0_plans 94 = .ok (.aload_n 3, 1) := by decide +kernel
theorem dX0_plans_95 : decode cX0_plans 95 = .ok (.invokevirtual 229, 3) := by decide +kernel
theorem dX0_plans_98 : decode cX0_plans 98 = .ok (.isub, 1) := by decide +kernel
theorem dX0_plans_99 : decode cX0_plans 99 = .ok (.putfield 232, 3) := by decide +kernel
theorem dX0_plans_102 : decode cX0_plans 102 = .ok (.goto 12, 3) := by decide +kernel
theorem dX0_plans_105 : decode cX0_plans 105 = .ok (.aload_n 0, 1) := by decide +kernel
theorem dX0_plans_106 : decode cX0_plans 106 = .ok (.getfield 52, 3) := by decide +kernel
theorem dX0_plans_109 : decode cX0_plans 109 = .ok (.aload_n 3, 1) := by decide +kernel
theorem dX0_plans_110 : decode cX0_plans 110 = .ok (.invokevirtual 115, 3) := by decide +kernel
theorem dX0_plans_113 : decode cX0_plans 113 = .ok (.pop, 1) := by decide +kernel
theorem dX0_plans_114 : decode cX0_plans 114 = .ok (.iinc 2 1, 3) := by decide +kernel
theorem dX0_plans_117 : decode cX0_plans 117 = .ok (.goto (-92), 3) := by decide +kernel
theorem dX0_plans_120 : decode cX0_plans 120 = .ok (.bipush 12, 2) := by decide +kernel
theorem dX0_plans_122 : decode cX0_plans 122 = .ok (.aload_n 0, 1) := by decide +kernel
theorem dX0_plans_123 : decode cX0_plans 123 = .ok (.getfield 52, 3) := by decide +kernel
theorem dX0_plans_126 : decode cX0_plans 126 = .ok (.invokevirtual 70, 3) := by decide +kernel
theorem dX0_plans_129 : decode cX0_plans 129 = .ok (.invokestatic 188, 3) := by decide +kernel
theorem dX0_plans_132 : decode cX0_plans 132 = .ok (.istore_n 2, 1) := by decide +kernel
theorem dX0_plans_133 : decode cX0_plans 133 = .ok (.iconst 0, 1) := by decide +kernel
theorem dX0_plans_134 : decode cX0_plans 134 = .ok (.istore_n 3, 1) := by decide +kernel
theorem dX0_plans_135 : decode cX0_plans 135 = .ok (.iload_n 3, 1) := by decide +kernel
theorem dX0_plans_136 : decode cX0_plans 136 = .ok (.aload_n 0, 1) := by decide +kernel
theorem dX0_plans_137 : decode cX0_plans 137 = .ok (.getfield 232, 3) := by decide +kernel
theorem dX0_plans_140 : decode cX0_plans 140 = .ok (.if_icmp .gt 18, 3) := by decide +kernel
theorem dX0_plans_143 : decode cX0_plans 143 = .ok (.aload_n 0, 1) := by decide +kernel
theorem dX0_plans_144 : decode cX0_plans 144 = .ok (.getfield 57, 3) := by decide +kernel
theorem dX0_plans_147 : decode cX0_plans 147 = .ok (.iconst 0, 1) := by decide +kernel
theorem dX0_plans_148 : decode cX0_plans 148 = .ok (.aaload, 1) := by decide +kernel
theorem dX0_plans_149 : decode cX0_plans 149 = .ok (.iload_n 3, 1) := by decide +kernel
theorem dX0_plans_150 : decode cX0_plans 150 = .ok (.iconst 0, 1) := by decide +kernel
theorem dX0_plans_151 : decode cX0_plans 151 = .ok (.iastore, 1) := by decide +kernel
theorem dX0_plans_152 : decode cX0_plans 152 = .ok (.iinc 3 1, 3) := by decide +kernel
theorem dX0_plans_155 : decode cX0_plans 155 = .ok (.goto (-20), 3) := by decide +kernel
theorem dX0_plans_158 : decode cX0_plans 158 = .ok (.iconst 0, 1) := by decide +kernel
theorem dX0_plans_159 : decode cX0_plans 159 = .ok (.istore_n 3, 1) := by decide +kernel
theorem dX0_plans_160 : decode cX0_plans 160 = .ok (.iload_n 3, 1) := by decide +kernel
theorem dX0_plans_161 : decode cX0_plans 161 = .ok (.iload_n 2, 1) := by decide +kernel
theorem dX0_plans_162 : decode cX0_plans 162 = .ok (.if_icmp .ge 98, 3) := by decide +kernel
theorem dX0_plans_165 : decode cX0_plans 165 = .ok (.aload_n 0, 1) := by decide +kernel
