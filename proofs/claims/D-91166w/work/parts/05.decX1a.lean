set_option maxRecDepth 100000
theorem dX1_init_0 : decode cX1_init 0 = .ok (.aload_n 0, 1) := by decide +kernel
theorem dX1_init_1 : decode cX1_init 1 = .ok (.invokespecial 1, 3) := by decide +kernel
theorem dX1_init_4 : decode cX1_init 4 = .ok (.aload_n 0, 1) := by decide +kernel
theorem dX1_init_5 : decode cX1_init 5 = .ok (.bipush 50, 2) := by decide +kernel
theorem dX1_init_7 : decode cX1_init 7 = .ok (.putfield 7, 3) := by decide +kernel
theorem dX1_init_10 : decode cX1_init 10 = .ok (.aload_n 0, 1) := by decide +kernel
theorem dX1_init_11 : decode cX1_init 11 = .ok (.iconst 3, 1) := by decide +kernel
theorem dX1_init_12 : decode cX1_init 12 = .ok (.putfield 13, 3) := by decide +kernel
theorem dX1_init_15 : decode cX1_init 15 = .ok (.aload_n 0, 1) := by decide +kernel
theorem dX1_init_16 : decode cX1_init 16 = .ok (.sipush 200, 3) := by decide +kernel
theorem dX1_init_19 : decode cX1_init 19 = .ok (.newarray .int, 2) := by decide +kernel
theorem dX1_init_21 : decode cX1_init 21 = .ok (.putfield 16, 3) := by decide +kernel
theorem dX1_init_24 : decode cX1_init 24 = .ok (.aload_n 0, 1) := by decide +kernel
theorem dX1_init_25 : decode cX1_init 25 = .ok (.sipush 200, 3) := by decide +kernel
theorem dX1_init_28 : decode cX1_init 28 = .ok (.newarray .int, 2) := by decide +kernel
theorem dX1_init_30 : decode cX1_init 30 = .ok (.putfield 20, 3) := by decide +kernel
theorem dX1_init_33 : decode cX1_init 33 = .ok (.aload_n 0, 1) := by decide +kernel
theorem dX1_init_34 : decode cX1_init 34 = .ok (.sipush 200, 3) := by decide +kernel
theorem dX1_init_37 : decode cX1_init 37 = .ok (.newarray .int, 2) := by decide +kernel
theorem dX1_init_39 : decode cX1_init 39 = .ok (.putfield 23, 3) := by decide +kernel
theorem dX1_init_42 : decode cX1_init 42 = .ok (.aload_n 0, 1) := by decide +kernel
theorem dX1_init_43 : decode cX1_init 43 = .ok (.sipush 200, 3) := by decide +kernel
theorem dX1_init_46 : decode cX1_init 46 = .ok (.newarray .int, 2) := by decide +kernel
theorem dX1_init_48 : decode cX1_init 48 = .ok (.putfield 26, 3) := by decide +kernel
theorem dX1_init_51 : decode cX1_init 51 = .ok (.aload_n 0, 1) := by decide +kernel
theorem dX1_init_52 : decode cX1_init 52 = .ok (.sipush 200, 3) := by decide +kernel
theorem dX1_init_55 : decode cX1_init 55 = .ok (.newarray .int, 2) := by decide +kernel
theorem dX1_init_57 : decode cX1_init 57 = .ok (.putfield 29, 3) := by decide +kernel
theorem dX1_init_60 : decode cX1_init 60 = .ok (.aload_n 0, 1) := by decide +kernel
theorem dX1_init_61 : decode cX1_init 61 = .ok (.sipush 200, 3) := by decide +kernel
theorem dX1_init_64 : decode cX1_init 64 = .ok (.newarray .int, 2) := by decide +kernel
theorem dX1_init_66 : decode cX1_init 66 = .ok (.putfield 32, 3) := by decide +kernel
theorem dX1_init_69 : decode cX1_init 69 = .ok (.aload_n 0, 1) := by decide +kernel
theorem dX1_init_70 : decode cX1_init 70 = .ok (.sipush 200, 3) := by decide +kernel
theorem dX1_init_73 : decode cX1_init 73 = .ok (.newarray .int, 2) := by decide +kernel
theorem dX1_init_75 : decode cX1_init 75 = .ok (.putfield 35, 3) := by decide +kernel
theorem dX1_init_78 : decode cX1_init 78 = .ok (.aload_n 0, 1) := by decide +kernel
theorem dX1_init_79 : decode cX1_init 79 = .ok (.sipush 200, 3) := by decide +kernel
theorem dX1_init_82 : decode cX1_init 82 = .ok (.newarray .int, 2) := by decide +kernel
theorem dX1_init_84 : decode cX1_init 84 = .ok (.putfield 38, 3) := by decide +kernel
theorem dX1_init_87 : decode cX1_init 87 = .ok (.aload_n 0, 1) := by decide +kernel
theorem dX1_init_88 : decode cX1_init 88 = .ok (.sipush 200, 3) := by decide +kernel
theorem dX1_init_91 : decode cX1_init 91 = .ok (.newarray .int, 2) := by decide +kernel
theorem dX1_init_93 : decode cX1_init 93 = .ok (.putfield 41, 3) := by decide +kernel
theorem dX1_init_96 : decode cX1_init 96 = .ok (.aload_n 0, 1) := by decide +kernel
theorem dX1_init_97 : decode cX1_init 97 = .ok (.sipush 200, 3) := by decide +kernel
theorem dX1_init_100 : decode cX1_init 100 = .ok (.newarray .int, 2) := by decide +kernel
theorem dX1_init_102 : decode cX1_init 102 = .ok (.putfield 44, 3) := by decide +kernel
theorem dX1_init_105 : decode cX1_init 105 = .ok (.aload_n 0, 1) := by decide +kernel
theorem dX1_init_106 : decode cX1_init 106 = .ok (.sipush 200, 3) := by decide +kernel
theorem dX1_init_109 : decode cX1_init 109 = .ok (.newarray .boolean, 2) := by decide +kernel
theorem dX1_init_111 : decode cX1_init 111 = .ok (.putfield 47, 3) := by decide +kernel
theorem dX1_init_114 : decode cX1_init 114 = .ok (.aload_n 0, 1) := by decide +kernel
theorem dX1_init_115 : decode cX1_init 115 = .ok (.sipush 200, 3) := by decide +kernel
theorem dX1_init_118 : decode cX1_init 118 = .ok (.newarray .boolean, 2) := by decide +kernel
theorem dX1_init_120 : decode cX1_init 120 = .ok (.putfield 51, 3) := by decide +kernel
theorem dX1_init_123 : decode cX1_init 123 = .ok (.aload_n 0, 1) := by decide +kernel
theorem dX1_init_124 : decode cX1_init 124 = .ok (.bipush 30, 2) := by decide +kernel
theorem dX1_init_126 : decode cX1_init 126 = .ok (.newarray .int, 2) := by decide +kernel
theorem dX1_init_128 : decode cX1_init 128 = .ok (.putfield 54, 3) := by decide +kernel
theorem dX1_init_131 : decode cX1_init 131 = .ok (.aload_n 0, 1) := by decide +kernel
theorem dX1_init_132 : decode cX1_init 132 = .ok (.bipush 30, 2) := by decide +kernel
theorem dX1_init_134 : decode cX1_init 134 = .ok (.newarray .int, 2) := by decide +kernel
theorem dX1_init_136 : decode cX1_init 136 = .ok (.putfield 57, 3) := by decide +kernel
theorem dX1_init_139 : decode cX1_init 139 = .ok (.aload_n 0, 1) := by decide +kernel
theorem dX1_init_140 : decode cX1_init 140 = .ok (.bipush 30, 2) := by decide +kernel
theorem dX1_init_142 : decode cX1_init 142 = .ok (.newarray .int, 2) := by decide +kernel
theorem dX1_init_144 : decode cX1_init 144 = .ok (.putfield 60, 3) := by decide +kernel
theorem dX1_init_147 : decode cX1_init 147 = .ok (.aload_n 0, 1) := by decide +kernel
theorem dX1_init_148 : decode cX1_init 148 = .ok (.bipush 60, 2) := by decide +kernel
theorem dX1_init_150 : decode cX1_init 150 = .ok (.newarray .int, 2) := by decide +kernel
theorem dX1_init_152 : decode cX1_init 152 = .ok (.putfield 63, 3) := by decide +kernel
theorem dX1_init_155 : decode cX1_init 155 = .ok (.aload_n 0, 1) := by decide +kernel
theorem dX1_init_156 : decode cX1_init 156 = .ok (.bipush 60, 2) := by decide +kernel
theorem dX1_init_158 : decode cX1_init 158 = .ok (.newarray .int, 2) := by decide +kernel
theorem dX1_init_160 : decode cX1_init 160 = .ok (.putfield 66, 3) := by decide +kernel
theorem dX1_init_163 : decode cX1_init 163 = .ok (.aload_n 0, 1) := by decide +kernel
theorem dX1_init_164 : decode cX1_init 164 = .ok (.bipush 60, 2) := by decide +kernel
theorem dX1_init_166 : decode cX1_init 166 = .ok (.newarray .boolean, 2) := by decide +kernel
theorem dX1_init_168 : decode cX1_init 168 = .ok (.putfield 69, 3) := by decide +kernel
theorem dX1_init_171 : decode cX1_init 171 = .ok (.aload_n 0, 1) := by decide +kernel
theorem dX1_init_172 : decode cX1_init 172 = .ok (.sipush 200, 3) := by decide +kernel
theorem dX1_init_175 : decode cX1_init 175 = .ok (.newarray .int, 2) := by decide +kernel
theorem dX1_init_177 : decode cX1_init 177 = .ok (.putfield 72, 3) := by decide +kernel
theorem dX1_init_180 : decode cX1_init 180 = .ok (.aload_n 0, 1) := by decide +kernel
theorem dX1_init_181 : decode cX1_init 181 = .ok (.sipush 200, 3) := by decide +kernel
theorem dX1_init_184 : decode cX1_init 184 = .ok (.newarray .int, 2) := by decide +kernel
theorem dX1_init_186 : decode cX1_init 186 = .ok (.putfield 75, 3) := by decide +kernel
theorem dX1_init_189 : decode cX1_init 189 = .ok (.aload_n 0, 1) := by decide +kernel
theorem dX1_init_190 : decode cX1_init 190 = .ok (.sipush 200, 3) := by decide +kernel
theorem dX1_init_193 : decode cX1_init 193 = .ok (.newarray .int, 2) := by decide +kernel
theorem dX1_init_195 : decode cX1_init 195 = .ok (.putfield 78, 3) := by decide +kernel
theorem dX1_init_198 : decode cX1_init 198 = .ok (.aload_n 0, 1) := by decide +kernel
theorem dX1_init_199 : decode cX1_init 199 = .ok (.bipush 20, 2) := by decide +kernel
theorem dX1_init_201 : decode cX1_init 201 = .ok (.newarray .int, 2) := by decide +kernel
theorem dX1_init_203 : decode cX1_init 203 = .ok (.putfield 81, 3) := by decide +kernel
theorem dX1_init_206 : decode cX1_init 206 = .ok (.aload_n 0, 1) := by decide +kernel
theorem dX1_init_207 : decode cX1_init 207 = .ok (.bipush 12, 2) := by decide +kernel
theorem dX1_init_209 : decode cX1_init 209 = .ok (.newarray .int, 2) := by decide +kernel
theorem dX1_init_211 : decode cX1_init 211 = .ok (.putfield 84, 3) := by decide +kernel
theorem dX1_init_214 : decode cX1_init 214 = .ok (.aload_n 0, 1) := by decide +kernel
theorem dX1_init_215 : decode cX1_init 215 = .ok (.bipush 12, 2) := by decide +kernel
theorem dX1_init_217 : decode cX1_init 217 = .ok (.newarray .int, 2) := by decide +kernel
theorem dX1_init_219 : decode cX1_init 219 = .ok (.putfield 87, 3) := by decide +kernel
theorem dX1_init_222 : decode cX1_init 222 = .ok (.aload_n 0, 1) := by decide +kernel
theorem dX1_init_223 : decode cX1_init 223 = .ok (.bipush 12, 2) := by decide +kernel
theorem dX1_init_225 : decode cX1_init 225 = .ok (.newarray .int, 2) := by decide +kernel
theorem dX1_init_227 : decode cX1_init 227 = .ok (.putfield 90, 3) := by decide +kernel
theorem dX1_init_230 : decode cX1_init 230 = .ok (.return_, 1) := by decide +kernel
theorem dX1_pass_0 : decode cX1_pass 0 = .ok (.iload_n 1, 1) := by decide +kernel
theorem dX1_pass_1 : decode cX1_pass 1 = .ok (.iconst 1, 1) := by decide +kernel
theorem dX1_pass_2 : decode cX1_pass 2 = .ok (.sipush 1000, 3) := by decide +kernel
theorem dX1_pass_5 : decode cX1_pass 5 = .ok (.invokestatic 96, 3) := by decide +kernel
theorem dX1_pass_8 : decode cX1_pass 8 = .ok (.ifCond .eq 15, 3) := by decide +kernel
theorem dX1_pass_11 : decode cX1_pass 11 = .ok (.aload_n 0, 1) := by decide +kernel
theorem dX1_pass_12 : decode cX1_pass 12 = .ok (.getfield 100, 3) := by decide +kernel
theorem dX1_pass_15 : decode cX1_pass 15 = .ok (.iload_n 1, 1) := by decide +kernel
theorem dX1_pass_16 : decode cX1_pass 16 = .ok (.iadd, 1) := by decide +kernel
theorem dX1_pass_17 : decode cX1_pass 17 = .ok (.sipush 10000, 3) := by decide +kernel
theorem dX1_pass_20 : decode cX1_pass 20 = .ok (.if_icmp .le 5, 3) := by decide +kernel
theorem dX1_pass_23 : decode cX1_pass 23 = .ok (.iconst (-1), 1) := by decide +kernel
theorem dX1_pass_24 : decode cX1_pass 24 = .ok (.ireturn, 1) := by decide +kernel
theorem dX1_pass_25 : decode cX1_pass 25 = .ok (.aload_n 0, 1) := by decide +kernel
theorem dX1_pass_26 : decode cX1_pass 26 = .ok (.dup, 1) := by decide +kernel
theorem dX1_pass_27 : decode cX1_pass 27 = .ok (.getfield 100, 3) := by decide +kernel
theorem dX1_pass_30 : decode cX1_pass 30 = .ok (.iload_n 1, 1) := by decide +kernel
theorem dX1_pass_31 : decode cX1_pass 31 = .ok (.iadd, 1) := by decide +kernel
theorem dX1_pass_32 : decode cX1_pass 32 = .ok (.putfield 100, 3) := by decide +kernel
theorem dX1_pass_35 : decode cX1_pass 35 = .ok (.aload_n 0, 1) := by decide +kernel
theorem dX1_pass_36 : decode cX1_pass 36 = .ok (.getfield 100, 3) := by decide +kernel
theorem dX1_pass_39 : decode cX1_pass 39 = .ok (.ireturn, 1) := by decide +kernel
theorem dX1_isIn_0 : decode cX1_isIn 0 = .ok (.iload_n 0, 1) := by decide +kernel
theorem dX1_isIn_1 : decode cX1_isIn 1 = .ok (.iload_n 1, 1) := by decide +kernel
theorem dX1_isIn_2 : decode cX1_isIn 2 = .ok (.if_icmp .lt 12, 3) := by decide +kernel
theorem dX1_isIn_5 : decode cX1_isIn 5 = .ok (.iload_n 0, 1) := by decide +kernel
theorem dX1_isIn_6 : decode cX1_isIn 6 = .ok (.iload_n 2, 1) := by decide +kernel
theorem dX1_isIn_7 : decode cX1_isIn 7 = .ok (.if_icmp .gt 7, 3) := by decide +kernel
theorem dX1_isIn_10 : decode cX1_isIn 10 = .ok (.iconst 1, 1) := by decide +kernel
theorem dX1_isIn_11 : decode cX1_isIn 11 = .ok (.goto 4, 3) := by decide +kernel
theorem dX1_isIn_14 : decode cX1_isIn 14 = .ok (.iconst 0, 1) := by decide +kernel
theorem dX1_isIn_15 : decode cX1_isIn 15 = .ok (.ireturn, 1) := by decide +kernel
theorem dX1_alarm_0 : decode cX1_alarm 0 = .ok (.iload_n 1, 1) := by decide +kernel
theorem dX1_alarm_1 : decode cX1_alarm 1 = .ok (.iconst 0, 1) := by decide +kernel
theorem dX1_alarm_2 : decode cX1_alarm 2 = .ok (.bipush 9, 2) := by decide +kernel
theorem dX1_alarm_4 : decode cX1_alarm 4 = .ok (.invokestatic 96, 3) := by decide +kernel
theorem dX1_alarm_7 : decode cX1_alarm 7 = .ok (.ifCond .eq 35, 3) := by decide +kernel
theorem dX1_alarm_10 : decode cX1_alarm 10 = .ok (.iload_n 2, 1) := by decide +kernel
theorem dX1_alarm_11 : decode cX1_alarm 11 = .ok (.iconst 0, 1) := by decide +kernel
theorem dX1_alarm_12 : decode cX1_alarm 12 = .ok (.bipush 39, 2) := by decide +kernel
theorem dX1_alarm_14 : decode cX1_alarm 14 = .ok (.invokestatic 96, 3) := by decide +kernel
theorem dX1_alarm_17 : decode cX1_alarm 17 = .ok (.ifCond .eq 25, 3) := by decide +kernel
theorem dX1_alarm_20 : decode cX1_alarm 20 = .ok (.iload_n 3, 1) := by decide +kernel
theorem dX1_alarm_21 : decode cX1_alarm 21 = .ok (.iconst 0, 1) := by decide +kernel
theorem dX1_alarm_22 : decode cX1_alarm 22 = .ok (.sipush 4095, 3) := by decide +kernel
theorem dX1_alarm_25 : decode cX1_alarm 25 = .ok (.invokestatic 96, 3) := by decide +kernel
theorem dX1_alarm_28 : decode cX1_alarm 28 = .ok (.ifCond .eq 14, 3) := by decide +kernel
theorem dX1_alarm_31 : decode cX1_alarm 31 = .ok (.iload 4, 2) := by decide +kernel
theorem dX1_alarm_33 : decode cX1_alarm 33 = .ok (.iconst 1, 1) := by decide +kernel
theorem dX1_alarm_34 : decode cX1_alarm 34 = .ok (.bipush 100, 2) := by decide +kernel
theorem dX1_alarm_36 : decode cX1_alarm 36 = .ok (.invokestatic 96, 3) := by decide +kernel
theorem dX1_alarm_39 : decode cX1_alarm 39 = .ok (.ifCond .ne 6, 3) := by decide +kernel
theorem dX1_alarm_42 : decode cX1_alarm 42 = .ok (.bipush (-2), 2) := by decide +kernel
theorem dX1_alarm_44 : decode cX1_alarm 44 = .ok (.ireturn, 1) := by decide +kernel
theorem dX1_alarm_45 : decode cX1_alarm 45 = .ok (.aload_n 0, 1) := by decide +kernel
theorem dX1_alarm_46 : decode cX1_alarm 46 = .ok (.getfield 93, 3) := by decide +kernel
theorem dX1_alarm_49 : decode cX1_alarm 49 = .ok (.iconst 1, 1) := by decide +kernel
theorem dX1_alarm_50 : decode cX1_alarm 50 = .ok (.isub, 1) := by decide +kernel
theorem dX1_alarm_51 : decode cX1_alarm 51 = .ok (.istore 5, 2) := by decide +kernel
theorem dX1_alarm_53 : decode cX1_alarm 53 = .ok (.iload 5, 2) := by decide +kernel
theorem dX1_alarm_55 : decode cX1_alarm 55 = .ok (.ifCond .lt 96, 3) := by decide +kernel
theorem dX1_alarm_58 : decode cX1_alarm 58 = .ok (.aload_n 0, 1) := by decide +kernel
theorem dX1_alarm_59 : decode cX1_alarm 59 = .ok (.iload 5, 2) := by decide +kernel
theorem dX1_alarm_61 : decode cX1_alarm 61 = .ok (.invokevirtual 103, 3) := by decide +kernel
theorem dX1_alarm_64 : decode cX1_alarm 64 = .ok (.ifCond .eq 81, 3) := by decide +kernel
theorem dX1_alarm_67 : decode cX1_alarm 67 = .ok (.aload_n 0, 1) := by decide +kernel
theorem dX1_alarm_68 : decode cX1_alarm 68 = .ok (.getfield 23, 3) := by decide +kernel
theorem dX1_alarm_71 : decode cX1_alarm 71 = .ok (.iload 5, 2) := by decide +kernel
theorem dX1_alarm_73 : decode cX1_alarm 73 = .ok (.iaload, 1) := by decide +kernel
theorem dX1_alarm_74 : decode cX1_alarm 74 = .ok (.iload_n 1, 1) := by decide +kernel
theorem dX1_alarm_75 : decode cX1_alarm 75 = .ok (.if_icmp .ne 70, 3) := by decide +kernel
theorem dX1_alarm_78 : decode cX1_alarm 78 = .ok (.aload_n 0, 1) := by decide +kernel
theorem dX1_alarm_79 : decode cX1_alarm 79 = .ok (.getfield 26, 3) := by decide +kernel
theorem dX1_alarm_82 : decode cX1_alarm 82 = .ok (.iload 5, 2) := by decide +kernel
theorem dX1_alarm_84 : decode cX1_alarm 84 = .ok (.iaload, 1) := by decide +kernel
theorem dX1_alarm_85 : decode cX1_alarm 85 = .ok (.iload_n 2, 1) := by decide +kernel
theorem dX1_alarm_86 : decode cX1_alarm 86 = .ok (.if_icmp .ne 59, 3) := by decide +kernel
theorem dX1_alarm_89 : decode cX1_alarm 89 = .ok (.aload_n 0, 1) := by decide +kernel
theorem dX1_alarm_90 : decode cX1_alarm 90 = .ok (.getfield 29, 3) := by decide +kernel
theorem dX1_alarm_93 : decode cX1_alarm 93 = .ok (.iload 5, 2) := by decide +kernel
theorem dX1_alarm_95 : decode cX1_alarm 95 = .ok (.iaload, 1) := by decide +kernel
theorem dX1_alarm_96 : decode cX1_alarm 96 = .ok (.iload_n 3, 1) := by decide +kernel
theorem dX1_alarm_97 : decode cX1_alarm 97 = .ok (.if_icmp .ne 48, 3) := by decide +kernel
theorem dX1_alarm_100 : decode cX1_alarm 100 = .ok (.aload_n 0, 1) := by decide +kernel
theorem dX1_alarm_101 : decode cX1_alarm 101 = .ok (.getfield 100, 3) := by decide +kernel
theorem dX1_alarm_104 : decode cX1_alarm 104 = .ok (.aload_n 0, 1) := by decide +kernel
theorem dX1_alarm_105 : decode cX1_alarm 105 = .ok (.getfield 20, 3) := by decide +kernel
theorem dX1_alarm_108 : decode cX1_alarm 108 = .ok (.iload 5, 2) := by decide +kernel
theorem dX1_alarm_110 : decode cX1_alarm 110 = .ok (.iaload, 1) := by decide +kernel
theorem dX1_alarm_111 : decode cX1_alarm 111 = .ok (.isub, 1) := by decide +kernel
theorem dX1_alarm_112 : decode cX1_alarm 112 = .ok (.bipush 10, 2) := by decide +kernel
theorem dX1_alarm_114 : decode cX1_alarm 114 = .ok (.if_icmp .le 6, 3) := by decide +kernel
theorem dX1_alarm_117 : decode cX1_alarm 117 = .ok (.goto 28, 3) := by decide +kernel
theorem dX1_alarm_120 : decode cX1_alarm 120 = .ok (.aload_n 0, 1) := by decide +kernel
theorem dX1_alarm_121 : decode cX1_alarm 121 = .ok (.getfield 35, 3) := by decide +kernel
theorem dX1_alarm_124 : decode cX1_alarm 124 = .ok (.iload 5, 2) := by decide +kernel
theorem dX1_alarm_126 : decode cX1_alarm 126 = .ok (.dup2, 1) := by decide +kernel
theorem dX1_alarm_127 : decode cX1_alarm 127 = .ok (.iaload, 1) := by decide +kernel
theorem dX1_alarm_128 : decode cX1_alarm 128 = .ok (.iconst 1, 1) := by decide +kernel
theorem dX1_alarm_129 : decode cX1_alarm 129 = .ok (.iadd, 1) := by decide +kernel
theorem dX1_alarm_130 : decode cX1_alarm 130 = .ok (.iastore, 1) := by decide +kernel
theorem dX1_alarm_131 : decode cX1_alarm 131 = .ok (.aload_n 0, 1) := by decide +kernel
theorem dX1_alarm_132 : decode cX1_alarm 132 = .ok (.getfield 20, 3) := by decide +kernel
theorem dX1_alarm_135 : decode cX1_alarm 135 = .ok (.iload 5, 2) := by decide +kernel
theorem dX1_alarm_137 : decode cX1_alarm 137 = .ok (.aload_n 0, 1) := by decide +kernel
theorem dX1_alarm_138 : decode cX1_alarm 138 = .ok (.getfield 100, 3) := by decide +kernel
theorem dX1_alarm_141 : decode cX1_alarm 141 = .ok (.iastore, 1) := by decide +kernel
theorem dX1_alarm_142 : decode cX1_alarm 142 = .ok (.iload 5, 2) := by decide +kernel
theorem dX1_alarm_144 : decode cX1_alarm 144 = .ok (.ireturn, 1) := by decide +kernel
theorem dX1_alarm_145 : decode cX1_alarm 145 = .ok (.iinc 5 (-1), 3) := by decide +kernel
theorem dX1_alarm_148 : decode cX1_alarm 148 = .ok (.goto (-95), 3) := by decide +kernel
theorem dX1_alarm_151 : decode cX1_alarm 151 = .ok (.aload_n 0, 1) := by decide +kernel
theorem dX1_alarm_152 : decode cX1_alarm 152 = .ok (.getfield 93, 3) := by decide +kernel
theorem dX1_alarm_155 : decode cX1_alarm 155 = .ok (.sipush 200, 3) := by decide +kernel
theorem dX1_alarm_158 : decode cX1_alarm 158 = .ok (.if_icmp .ne 6, 3) := by decide +kernel
theorem dX1_alarm_161 : decode cX1_alarm 161 = .ok (.bipush (-3), 2) := by decide +kernel
theorem dX1_alarm_163 : decode cX1_alarm 163 = .ok (.ireturn, 1) := by decide +kernel
theorem dX1_alarm_164 : decode cX1_alarm 164 = .ok (.aload_n 0, 1) := by decide +kernel
theorem dX1_alarm_165 : decode cX1_alarm 165 = .ok (.getfield 93, 3) := by decide +kernel
theorem dX1_alarm_168 : decode cX1_alarm 168 = .ok (.istore 5, 2) := by decide +kernel
theorem dX1_alarm_170 : decode cX1_alarm 170 = .ok (.iconst 0, 1) := by decide +kernel
theorem dX1_alarm_171 : decode cX1_alarm 171 = .ok (.istore 6, 2) := by decide +kernel
theorem dX1_alarm_173 : decode cX1_alarm 173 = .ok (.iconst 0, 1) := by decide +kernel
theorem dX1_alarm_174 : decode cX1_alarm 174 = .ok (.istore 7, 2) := by decide +kernel
theorem dX1_alarm_176 : decode cX1_alarm 176 = .ok (.iload 7, 2) := by decide +kernel
theorem dX1_alarm_178 : decode cX1_alarm 178 = .ok (.iload 5, 2) := by decide +kernel
theorem dX1_alarm_180 : decode cX1_alarm 180 = .ok (.if_icmp .ge 70, 3) := by decide +kernel
theorem dX1_alarm_183 : decode cX1_alarm 183 = .ok (.iload 6, 2) := by decide +kernel
theorem dX1_alarm_185 : decode cX1_alarm 185 = .ok (.aload_n 0, 1) := by decide +kernel
theorem dX1_alarm_186 : decode cX1_alarm 186 = .ok (.getfield 23, 3) := by decide +kernel
theorem dX1_alarm_189 : decode cX1_alarm 189 = .ok (.iload 7, 2) := by decide +kernel
theorem dX1_alarm_191 : decode cX1_alarm 191 = .ok (.iaload, 1) := by decide +kernel
theorem dX1_alarm_192 : decode cX1_alarm 192 = .ok (.iload_n 1, 1) := by decide +kernel
theorem dX1_alarm_193 : decode cX1_alarm 193 = .ok (.if_icmp .ne 44, 3) := by decide +kernel
theorem dX1_alarm_196 : decode cX1_alarm 196 = .ok (.aload_n 0, 1) := by decide +kernel
theorem dX1_alarm_197 : decode cX1_alarm 197 = .ok (.getfield 47, 3) := by decide +kernel
theorem dX1_alarm_200 : decode cX1_alarm 200 = .ok (.iload 7, 2) := by decide +kernel
theorem dX1_alarm_202 : decode cX1_alarm 202 = .ok (.baload, 1) := by decide +kernel
theorem dX1_alarm_203 : decode cX1_alarm 203 = .ok (.ifCond .ne 34, 3) := by decide +kernel
theorem dX1_alarm_206 : decode cX1_alarm 206 = .ok (.aload_n 0, 1) := by decide +kernel
theorem dX1_alarm_207 : decode cX1_alarm 207 = .ok (.getfield 51, 3) := by decide +kernel
theorem dX1_alarm_210 : decode cX1_alarm 210 = .ok (.iload 7, 2) := by decide +kernel
theorem dX1_alarm_212 : decode cX1_alarm 212 = .ok (.baload, 1) := by decide +kernel
theorem dX1_alarm_213 : decode cX1_alarm 213 = .ok (.ifCond .ne 24, 3) := by decide +kernel
theorem dX1_alarm_216 : decode cX1_alarm 216 = .ok (.aload_n 0, 1) := by decide +kernel
theorem dX1_alarm_217 : decode cX1_alarm 217 = .ok (.getfield 100, 3) := by decide +kernel
theorem dX1_alarm_220 : decode cX1_alarm 220 = .ok (.aload_n 0, 1) := by decide +kernel
theorem dX1_alarm_221 : decode cX1_alarm 221 = .ok (.getfield 16, 3) := by decide +kernel
theorem dX1_alarm_224 : decode cX1_alarm 224 = .ok (.iload 7, 2) := by decide +kernel
theorem dX1_alarm_226 : decode cX1_alarm 226 = .ok (.iaload, 1) := by decide +kernel
theorem dX1_alarm_227 : decode cX1_alarm 227 = .ok (.isub, 1) := by decide +kernel
theorem dX1_alarm_228 : decode cX1_alarm 228 = .ok (.bipush 10, 2) := by decide +kernel
theorem dX1_alarm_230 : decode cX1_alarm 230 = .ok (.if_icmp .ge 7, 3) := by decide +kernel
theorem dX1_alarm_233 : decode cX1_alarm 233 = .ok (.iconst 1, 1) := by decide +kernel
theorem dX1_alarm_234 : decode cX1_alarm 234 = .ok (.goto 4, 3) := by decide +kernel
theorem dX1_alarm_237 : decode cX1_alarm 237 = .ok (.iconst 0, 1) := by decide +kernel
theorem dX1_alarm_238 : decode cX1_alarm 238 = .ok (.invokestatic 107, 3) := by decide +kernel
theorem dX1_alarm_241 : decode cX1_alarm 241 = .ok (.iadd, 1) := by decide +kernel
theorem dX1_alarm_242 : decode cX1_alarm 242 = .ok (.istore 6, 2) := by decide +kernel
theorem dX1_alarm_244 : decode cX1_alarm 244 = .ok (.iinc 7 1, 3) := by decide +kernel
theorem dX1_alarm_247 : decode cX1_alarm 247 = .ok (.goto (-71), 3) := by decide +kernel
theorem dX1_alarm_250 : decode cX1_alarm 250 = .ok (.iconst 0, 1) := by decide +kernel
theorem dX1_alarm_251 : decode cX1_alarm 251 = .ok (.istore 7, 2) := by decide +kernel
theorem dX1_alarm_253 : decode cX1_alarm 253 = .ok (.iload 7, 2) := by decide +kernel
theorem dX1_alarm_255 : decode cX1_alarm 255 = .ok (.aload_n 0, 1) := by decide +kernel
theorem dX1_alarm_256 : decode cX1_alarm 256 = .ok (.getfield 111, 3) := by decide +kernel
theorem dX1_alarm_259 : decode cX1_alarm 259 = .ok (.if_icmp .ge 66, 3) := by decide +kernel
theorem dX1_alarm_262 : decode cX1_alarm 262 = .ok (.aload_n 0, 1) := by decide +kernel
theorem dX1_alarm_263 : decode cX1_alarm 263 = .ok (.getfield 47, 3) := by decide +kernel
theorem dX1_alarm_266 : decode cX1_alarm 266 = .ok (.iload 5, 2) := by decide +kernel
theorem dX1_alarm_268 : decode cX1_alarm 268 = .ok (.aload_n 0, 1) := by decide +kernel
theorem dX1_alarm_269 : decode cX1_alarm 269 = .ok (.getfield 47, 3) := by decide +kernel
theorem dX1_alarm_272 : decode cX1_alarm 272 = .ok (.iload 5, 2) := by decide +kernel
theorem dX1_alarm_274 : decode cX1_alarm 274 = .ok (.baload, 1) := by decide +kernel
theorem dX1_alarm_275 : decode cX1_alarm 275 = .ok (.ifCond .ne 38, 3) := by decide +kernel
theorem dX1_alarm_278 : decode cX1_alarm 278 = .ok (.aload_n 0, 1) := by decide +kernel
theorem dX1_alarm_279 : decode cX1_alarm 279 = .ok (.getfield 54, 3) := by decide +kernel
theorem dX1_alarm_282 : decode cX1_alarm 282 = .ok (.iload 7, 2) := by decide +kernel
theorem dX1_alarm_284 : decode cX1_alarm 284 = .ok (.iaload, 1) := by decide +kernel
theorem dX1_alarm_285 : decode cX1_alarm 285 = .ok (.iload_n 1, 1) := by decide +kernel
theorem dX1_alarm_286 : decode cX1_alarm 286 = .ok (.if_icmp .ne 31, 3) := by decide +kernel
theorem dX1_alarm_289 : decode cX1_alarm 289 = .ok (.aload_n 0, 1) := by decide +kernel
theorem dX1_alarm_290 : decode cX1_alarm 290 = .ok (.getfield 100, 3) := by decide +kernel
theorem dX1_alarm_293 : decode cX1_alarm 293 = .ok (.aload_n 0, 1) := by decide +kernel
theorem dX1_alarm_294 : decode cX1_alarm 294 = .ok (.getfield 57, 3) := by decide +kernel
theorem dX1_alarm_297 : decode cX1_alarm 297 = .ok (.iload 7, 2) := by decide +kernel
theorem dX1_alarm_299 : decode cX1_alarm 299 = .ok (.iaload, 1) := by decide +kernel
theorem dX1_alarm_300 : decode cX1_alarm 300 = .ok (.aload_n 0, 1) := by decide +kernel
theorem dX1_alarm_301 : decode cX1_alarm 301 = .ok (.getfield 60, 3) := by decide +kernel
theorem dX1_alarm_304 : decode cX1_alarm 304 = .ok (.iload 7, 2) := by decide +kernel
theorem dX1_alarm_306 : decode cX1_alarm 306 = .ok (.iaload, 1) := by decide +kernel
theorem dX1_alarm_307 : decode cX1_alarm 307 = .ok (.invokestatic 96, 3) := by decide +kernel
theorem dX1_alarm_310 : decode cX1_alarm 310 = .ok (.ifCond .eq 7, 3) := by decide +kernel
theorem dX1_alarm_313 : decode cX1_alarm 313 = .ok (.iconst 1, 1) := by decide +kernel
theorem dX1_alarm_314 : decode cX1_alarm 314 = .ok (.goto 4, 3) := by decide +kernel
theorem dX1_alarm_317 : decode cX1_alarm 317 = .ok (.iconst 0, 1) := by decide +kernel
theorem dX1_alarm_318 : decode cX1_alarm 318 = .ok (.bastore, 1) := by decide +kernel
theorem dX1_alarm_319 : decode cX1_alarm 319 = .ok (.iinc 7 1, 3) := by decide +kernel
theorem dX1_alarm_322 : decode cX1_alarm 322 = .ok (.goto (-69), 3) := by decide +kernel
theorem dX1_alarm_325 : decode cX1_alarm 325 = .ok (.aload_n 0, 1) := by decide +kernel
theorem dX1_alarm_326 : decode cX1_alarm 326 = .ok (.getfield 51, 3) := by decide +kernel
theorem dX1_alarm_329 : decode cX1_alarm 329 = .ok (.iload 5, 2) := by decide +kernel
theorem dX1_alarm_331 : decode cX1_alarm 331 = .ok (.aload_n 0, 1) := by decide +kernel
theorem dX1_alarm_332 : decode cX1_alarm 332 = .ok (.getfield 47, 3) := by decide +kernel
theorem dX1_alarm_335 : decode cX1_alarm 335 = .ok (.iload 5, 2) := by decide +kernel
theorem dX1_alarm_337 : decode cX1_alarm 337 = .ok (.baload, 1) := by decide +kernel
theorem dX1_alarm_338 : decode cX1_alarm 338 = .ok (.ifCond .ne 16, 3) := by decide +kernel
theorem dX1_alarm_341 : decode cX1_alarm 341 = .ok (.iload 6, 2) := by decide +kernel
theorem dX1_alarm_343 : decode cX1_alarm 343 = .ok (.aload_n 0, 1) := by decide +kernel
theorem dX1_alarm_344 : decode cX1_alarm 344 = .ok (.getfield 7, 3) := by decide +kernel
theorem dX1_alarm_347 : decode cX1_alarm 347 = .ok (.if_icmp .lt 7, 3) := by decide +kernel
theorem dX1_alarm_350 : decode cX1_alarm 350 = .ok (.iconst 1, 1) := by decide +kernel
theorem dX1_alarm_351 : decode cX1_alarm 351 = .ok (.goto 4, 3) := by decide +kernel
theorem dX1_alarm_354 : decode cX1_alarm 354 = .ok (.iconst 0, 1) := by decide +kernel
theorem dX1_alarm_355 : decode cX1_alarm 355 = .ok (.bastore, 1) := by decide +kernel
theorem dX1_alarm_356 : decode cX1_alarm 356 = .ok (.aload_n 0, 1) := by decide +kernel
theorem dX1_alarm_357 : decode cX1_alarm 357 = .ok (.dup, 1) := by decide +kernel
theorem dX1_alarm_358 : decode cX1_alarm 358 = .ok (.getfield 93, 3) := by decide +kernel
theorem dX1_alarm_361 : decode cX1_alarm 361 = .ok (.iconst 1, 1) := by decide +kernel
theorem dX1_alarm_362 : decode cX1_alarm 362 = .ok (.iadd, 1) := by decide +kernel
theorem dX1_alarm_363 : decode cX1_alarm 363 = .ok (.putfield 93, 3) := by decide +kernel
theorem dX1_alarm_366 : decode cX1_alarm 366 = .ok (.aload_n 0, 1) := by decide +kernel
theorem dX1_alarm_367 : decode cX1_alarm 367 = .ok (.getfield 16, 3) := by decide +kernel
theorem dX1_alarm_370 : decode cX1_alarm 370 = .ok (.iload 5, 2) := by decide +kernel
theorem dX1_alarm_372 : decode cX1_alarm 372 = .ok (.aload_n 0, 1) := by decide +kernel
theorem dX1_alarm_373 : decode cX1_alarm 373 = .ok (.getfield 100, 3) := by decide +kernel
theorem dX1_alarm_376 : decode cX1_alarm 376 = .ok (.iastore, 1) := by decide +kernel
theorem dX1_alarm_377 : decode cX1_alarm 377 = .ok (.aload_n 0, 1) := by decide +kernel
theorem dX1_alarm_378 : decode cX1_alarm 378 = .ok (.getfield 20, 3) := by decide +kernel
theorem dX1_alarm_381 : decode cX1_alarm 381 = .ok (.iload 5, 2) := by decide +kernel
theorem dX1_alarm_383 : decode cX1_alarm 383 = .ok (.aload_n 0, 1) := by decide +kernel
theorem dX1_alarm_384 : decode cX1_alarm 384 = .ok (.getfield 100, 3) := by decide +kernel
theorem dX1_alarm_387 : decode cX1_alarm 387 = .ok (.iastore, 1) := by decide +kernel
theorem dX1_alarm_388 : decode cX1_alarm 388 = .ok (.aload_n 0, 1) := by decide +kernel
theorem dX1_alarm_389 : decode cX1_alarm 389 = .ok (.getfield 23, 3) := by decide +kernel
theorem dX1_alarm_392 : decode cX1_alarm 392 = .ok (.iload 5, 2) := by decide +kernel
theorem dX1_alarm_394 : decode cX1_alarm 394 = .ok (.iload_n 1, 1) := by decide +kernel
theorem dX1_alarm_395 : decode cX1_alarm 395 = .ok (.iastore, 1) := by decide +kernel
theorem dX1_alarm_396 : decode cX1_alarm 396 = .ok (.aload_n 0, 1) := by decide +kernel
theorem dX1_alarm_397 : decode cX1_alarm 397 = .ok (.getfield 26, 3) := by decide +kernel
theorem dX1_alarm_400 : decode cX1_alarm 400 = .ok (.iload 5, 2) := by decide +kernel
theorem dX1_alarm_402 : decode cX1_alarm 402 = .ok (.iload_n 2, 1) := by decide +kernel
theorem dX1_alarm_403 : decode cX1_alarm 403 = .ok (.iastore, 1) := by decide +kernel
theorem dX1_alarm_404 : decode cX1_alarm 404 = .ok (.aload_n 0, 1) := by decide +kernel
theorem dX1_alarm_405 : decode cX1_alarm 405 = .ok (.getfield 29, 3) := by decide +kernel
theorem dX1_alarm_408 : decode cX1_alarm 408 = .ok (.iload 5, 2) := by decide +kernel
theorem dX1_alarm_410 : decode cX1_alarm 410 = .ok (.iload_n 3, 1) := by decide +kernel
theorem dX1_alarm_411 : decode cX1_alarm 411 = .ok (.iastore, 1) := by decide +kernel
theorem dX1_alarm_412 : decode cX1_alarm 412 = .ok (.aload_n 0, 1) := by decide +kernel
theorem dX1_alarm_413 : decode cX1_alarm 413 = .ok (.getfield 32, 3) := by decide +kernel
theorem dX1_alarm_416 : decode cX1_alarm 416 = .ok (.iload 5, 2) := by decide +kernel
theorem dX1_alarm_418 : decode cX1_alarm 418 = .ok (.iload 4, 2) := by decide +kernel
theorem dX1_alarm_420 : decode cX1_alarm 420 = .ok (.iastore, 1) := by decide +kernel
theorem dX1_alarm_421 : decode cX1_alarm 421 = .ok (.iload 5, 2) := by decide +kernel
theorem dX1_alarm_423 : decode cX1_alarm 423 = .ok (.ireturn, 1) := by decide +kernel
theorem dX1_isLive_0 : decode cX1_isLive 0 = .ok (.aload_n 0, 1) := by decide +kernel
theorem dX1_isLive_1 : decode cX1_isLive 1 = .ok (.getfield 38, 3) := by decide +kernel
theorem dX1_isLive_4 : decode cX1_isLive 4 = .ok (.iload_n 1, 1) := by decide +kernel
theorem dX1_isLive_5 : decode cX1_isLive 5 = .ok (.iaload, 1) := by decide +kernel
theorem dX1_isLive_6 : decode cX1_isLive 6 = .ok (.ifCond .ne 25, 3) := by decide +kernel
theorem dX1_isLive_9 : decode cX1_isLive 9 = .ok (.aload_n 0, 1) := by decide +kernel
theorem dX1_isLive_10 : decode cX1_isLive 10 = .ok (.getfield 47, 3) := by decide +kernel
theorem dX1_isLive_13 : decode cX1_isLive 13 = .ok (.iload_n 1, 1) := by decide +kernel
theorem dX1_isLive_14 : decode cX1_isLive 14 = .ok (.baload, 1) := by decide +kernel
theorem dX1_isLive_15 : decode cX1_isLive 15 = .ok (.ifCond .ne 16, 3) := by decide +kernel
theorem dX1_isLive_18 : decode cX1_isLive 18 = .ok (.aload_n 0, 1) := by decide +kernel
theorem dX1_isLive_19 : decode cX1_isLive 19 = .ok (.getfield 51, 3) := by decide +kernel
theorem dX1_isLive_22 : decode cX1_isLive 22 = .ok (.iload_n 1, 1) := by decide +kernel
theorem dX1_isLive_23 : decode cX1_isLive 23 = .ok (.baload, 1) := by decide +kernel
theorem dX1_isLive_24 : decode cX1_isLive 24 = .ok (.ifCond .ne 7, 3) := by decide +kernel
theorem dX1_isLive_27 : decode cX1_isLive 27 = .ok (.iconst 1, 1) := by decide +kernel
theorem dX1_isLive_28 : decode cX1_isLive 28 = .ok (.goto 4, 3) := by decide +kernel
theorem dX1_isLive_31 : decode cX1_isLive 31 = .ok (.iconst 0, 1) := by decide +kernel
theorem dX1_isLive_32 : decode cX1_isLive 32 = .ok (.ireturn, 1) := by decide +kernel
theorem dX1_one_0 : decode cX1_one 0 = .ok (.iload_n 0, 1) := by decide +kernel
theorem dX1_one_1 : decode cX1_one 1 = .ok (.ifCond .eq 7, 3) := by decide +kernel
theorem dX1_one_4 : decode cX1_one 4 = .ok (.iconst 1, 1) := by decide +kernel
theorem dX1_one_5 : decode cX1_one 5 = .ok (.goto 4, 3) := by decide +kernel
theorem dX1_one_8 : decode cX1_one 8 = .ok (.iconst 0, 1) := by decide +kernel
theorem dX1_one_9 : decode cX1_one 9 = .ok (.ireturn, 1) := by decide +kernel
theorem dX1_silence_0 : decode cX1_silence 0 = .ok (.iload_n 1, 1) := by decide +kernel
theorem dX1_silence_1 : decode cX1_silence 1 = .ok (.iconst 0, 1) := by decide +kernel
theorem dX1_silence_2 : decode cX1_silence 2 = .ok (.bipush 9, 2) := by decide +kernel
theorem dX1_silence_4 : decode cX1_silence 4 = .ok (.invokestatic 96, 3) := by decide +kernel
theorem dX1_silence_7 : decode cX1_silence 7 = .ok (.ifCond .eq 28, 3) := by decide +kernel
theorem dX1_silence_10 : decode cX1_silence 10 = .ok (.iload_n 2, 1) := by decide +kernel
theorem dX1_silence_11 : decode cX1_silence 11 = .ok (.ifCond .lt 24, 3) := by decide +kernel
theorem dX1_silence_14 : decode cX1_silence 14 = .ok (.iload_n 2, 1) := by decide +kernel
theorem dX1_silence_15 : decode cX1_silence 15 = .ok (.iload_n 3, 1) := by decide +kernel
theorem dX1_silence_16 : decode cX1_silence 16 = .ok (.if_icmp .gt 19, 3) := by decide +kernel
theorem dX1_silence_19 : decode cX1_silence 19 = .ok (.iload_n 3, 1) := by decide +kernel
theorem dX1_silence_20 : decode cX1_silence 20 = .ok (.sipush 10000, 3) := by decide +kernel
theorem dX1_silence_23 : decode cX1_silence 23 = .ok (.if_icmp .gt 12, 3) := by decide +kernel
theorem dX1_silence_26 : decode cX1_silence 26 = .ok (.aload_n 0, 1) := by decide +kernel
theorem dX1_silence_27 : decode cX1_silence 27 = .ok (.getfield 111, 3) := by decide +kernel
theorem dX1_silence_30 : decode cX1_silence 30 = .ok (.bipush 30, 2) := by decide +kernel
theorem dX1_silence_32 : decode cX1_silence 32 = .ok (.if_icmp .ne 5, 3) := by decide +kernel
theorem dX1_silence_35 : decode cX1_silence 35 = .ok (.iconst (-1), 1) := by decide +kernel
theorem dX1_silence_36 : decode cX1_silence 36 = .ok (.ireturn, 1) := by decide +kernel
theorem dX1_silence_37 : decode cX1_silence 37 = .ok (.aload_n 0, 1) := by decide +kernel
theorem dX1_silence_38 : decode cX1_silence 38 = .ok (.getfield 54, 3) := by decide +kernel
theorem dX1_silence_41 : decode cX1_silence 41 = .ok (.aload_n 0, 1) := by decide +kernel
theorem dX1_silence_42 : decode cX1_silence 42 = .ok (.getfield 111, 3) := by decide +kernel
theorem dX1_silence_45 : decode cX1_silence 45 = .ok (.iload_n 1, 1) := by decide +kernel
theorem dX1_silence_46 : decode cX1_silence 46 = .ok (.iastore, 1) := by decide +kernel
theorem dX1_silence_47 : decode cX1_silence 47 = .ok (.aload_n 0, 1) := by decide +kernel
theorem dX1_silence_48 : decode cX1_silence 48 = .ok (.getfield 57, 3) := by decide +kernel
theorem dX1_silence_51 : decode cX1_silence 51 = .ok (.aload_n 0, 1) := by decide +kernel
theorem dX1_silence_52 : decode cX1_silence 52 = .ok (.getfield 111, 3) := by decide +kernel
theorem dX1_silence_55 : decode cX1_silence 55 = .ok (.iload_n 2, 1) := by decide +kernel
theorem dX1_silence_56 : decode cX1_silence 56 = .ok (.iastore, 1) := by decide +kernel
theorem dX1_silence_57 : decode cX1_silence 57 = .ok (.aload_n 0, 1) := by decide +kernel
theorem dX1_silence_58 : decode cX1_silence 58 = .ok (.getfield 60, 3) := by decide +kernel
theorem dX1_silence_61 : decode cX1_silence 61 = .ok (.aload_n 0, 1) := by decide +kernel
theorem dX1_silence_62 : decode cX1_silence 62 = .ok (.getfield 111, 3) := by decide +kernel
theorem dX1_silence_65 : decode cX1_silence 65 = .ok (.iload_n 3, 1) := by decide +kernel
theorem dX1_silence_66 : decode cX1_silence 66 = .ok (.iastore, 1) := by decide +kernel
theorem dX1_silence_67 : decode cX1_silence 67 = .ok (.aload_n 0, 1) := by decide +kernel
theorem dX1_silence_68 : decode cX1_silence 68 = .ok (.dup, 1) := by decide +kernel
theorem dX1_silence_69 : decode cX1_silence 69 = .ok (.getfield 111, 3) := by decide +kernel
theorem dX1_silence_72 : decode cX1_silence 72 = .ok (.iconst 1, 1) := by decide +kernel
theorem dX1_silence_73 : decode cX1_silence 73 = .ok (.iadd, 1) := by decide +kernel
theorem dX1_silence_74 : decode cX1_silence 74 = .ok (.putfield 111, 3) := by decide +kernel
theorem dX1_silence_77 : decode cX1_silence 77 = .ok (.aload_n 0, 1) := by decide +kernel
theorem dX1_silence_78 : decode cX1_silence 78 = .ok (.getfield 111, 3) := by decide +kernel
theorem dX1_silence_81 : decode cX1_silence 81 = .ok (.ireturn, 1) := by decide +kernel
theorem dX1_set_0 : decode cX1_set 0 = .ok (.iload_n 1, 1) := by decide +kernel
theorem dX1_set_1 : decode cX1_set 1 = .ok (.iconst 0, 1) := by decide +kernel
theorem dX1_set_2 : decode cX1_set 2 = .ok (.iconst 2, 1) := by decide +kernel
theorem dX1_set_3 : decode cX1_set 3 = .ok (.invokestatic 96, 3) := by decide +kernel
theorem dX1_set_6 : decode cX1_set 6 = .ok (.ifCond .eq 40, 3) := by decide +kernel
theorem dX1_set_9 : decode cX1_set 9 = .ok (.iload_n 2, 1) := by decide +kernel
theorem dX1_set_10 : decode cX1_set 10 = .ok (.iload_n 1, 1) := by decide +kernel
theorem dX1_set_11 : decode cX1_set 11 = .ok (.iconst 2, 1) := by decide +kernel
theorem dX1_set_12 : decode cX1_set 12 = .ok (.if_icmp .ne 7, 3) := by decide +kernel
theorem dX1_set_15 : decode cX1_set 15 = .ok (.iconst 0, 1) := by decide +kernel
theorem dX1_set_16 : decode cX1_set 16 = .ok (.goto 4, 3) := by decide +kernel
theorem dX1_set_19 : decode cX1_set 19 = .ok (.iconst 1, 1) := by decide +kernel
theorem dX1_set_20 : decode cX1_set 20 = .ok (.iload_n 1, 1) := by decide +kernel
theorem dX1_set_21 : decode cX1_set 21 = .ok (.ifCond .ne 8, 3) := by decide +kernel
theorem dX1_set_24 : decode cX1_set 24 = .ok (.bipush 50, 2) := by decide +kernel
theorem dX1_set_26 : decode cX1_set 26 = .ok (.goto 14, 3) := by decide +kernel
theorem dX1_set_29 : decode cX1_set 29 = .ok (.iload_n 1, 1) := by decide +kernel
theorem dX1_set_30 : decode cX1_set 30 = .ok (.iconst 1, 1) := by decide +kernel
theorem dX1_set_31 : decode cX1_set 31 = .ok (.if_icmp .ne 8, 3) := by decide +kernel
theorem dX1_set_34 : decode cX1_set 34 = .ok (.bipush 20, 2) := by decide +kernel
theorem dX1_set_36 : decode cX1_set 36 = .ok (.goto 4, 3) := by decide +kernel
theorem dX1_set_39 : decode cX1_set 39 = .ok (.iconst 5, 1) := by decide +kernel
theorem dX1_set_40 : decode cX1_set 40 = .ok (.invokestatic 96, 3) := by decide +kernel
theorem dX1_set_43 : decode cX1_set 43 = .ok (.ifCond .ne 5, 3) := by decide +kernel
theorem dX1_set_46 : decode cX1_set 46 = .ok (.iconst 0, 1) := by decide +kernel
theorem dX1_set_47 : decode cX1_set 47 = .ok (.ireturn, 1) := by decide +kernel
theorem dX1_set_48 : decode cX1_set 48 = .ok (.iload_n 1, 1) := by decide +kernel
theorem dX1_set_49 : decode cX1_set 49 = .ok (.ifCond .ne 11, 3) := by decide +kernel
theorem dX1_set_52 : decode cX1_set 52 = .ok (.aload_n 0, 1) := by decide +kernel
theorem dX1_set_53 : decode cX1_set 53 = .ok (.iload_n 2, 1) := by decide +kernel
theorem dX1_set_54 : decode cX1_set 54 = .ok (.putfield 7, 3) := by decide +kernel
theorem dX1_set_57 : decode cX1_set 57 = .ok (.goto 21, 3) := by decide +kernel
theorem dX1_set_60 : decode cX1_set 60 = .ok (.iload_n 1, 1) := by decide +kernel
theorem dX1_set_61 : decode cX1_set 61 = .ok (.iconst 1, 1) := by decide +kernel
theorem dX1_set_62 : decode cX1_set 62 = .ok (.if_icmp .ne 11, 3) := by decide +kernel
theorem dX1_set_65 : decode cX1_set 65 = .ok (.aload_n 0, 1) := by decide +kernel
theorem dX1_set_66 : decode cX1_set 66 = .ok (.iload_n 2, 1) := by decide +kernel
theorem dX1_set_67 : decode cX1_set 67 = .ok (.putfield 13, 3) := by decide +kernel
theorem dX1_set_70 : decode cX1_set 70 = .ok (.goto 8, 3) := by decide +kernel
theorem dX1_set_73 : decode cX1_set 73 = .ok (.aload_n 0, 1) := by decide +kernel
theorem dX1_set_74 : decode cX1_set 74 = .ok (.iload_n 2, 1) := by decide +kernel
theorem dX1_set_75 : decode cX1_set 75 = .ok (.putfield 114, 3) := by decide +kernel
theorem dX1_set_78 : decode cX1_set 78 = .ok (.iconst 1, 1) := by decide +kernel
theorem dX1_set_79 : decode cX1_set 79 = .ok (.ireturn, 1) := by decide +kernel
theorem dX1_verdict_0 : decode cX1_verdict 0 = .ok (.aload_n 0, 1) := by decide +kernel
theorem dX1_verdict_1 : decode cX1_verdict 1 = .ok (.iload_n 1, 1) := by decide +kernel
theorem dX1_verdict_2 : decode cX1_verdict 2 = .ok (.invokevirtual 117, 3) := by decide +kernel
theorem dX1_verdict_5 : decode cX1_verdict 5 = .ok (.ifCond .eq 43, 3) := by decide +kernel
theorem dX1_verdict_8 : decode cX1_verdict 8 = .ok (.iload_n 2, 1) := by decide +kernel
theorem dX1_verdict_9 : decode cX1_verdict 9 = .ok (.iconst 0, 1) := by decide +kernel
theorem dX1_verdict_10 : decode cX1_verdict 10 = .ok (.bipush 9, 2) := by decide +kernel
theorem dX1_verdict_12 : decode cX1_verdict 12 = .ok (.invokestatic 96, 3) := by decide +kernel
theorem dX1_verdict_15 : decode cX1_verdict 15 = .ok (.ifCond .eq 33, 3) := by decide +kernel
theorem dX1_verdict_18 : decode cX1_verdict 18 = .ok (.aload_n 0, 1) := by decide +kernel
theorem dX1_verdict_19 : decode cX1_verdict 19 = .ok (.getfield 38, 3) := by decide +kernel
theorem dX1_verdict_22 : decode cX1_verdict 22 = .ok (.iload_n 1, 1) := by decide +kernel
theorem dX1_verdict_23 : decode cX1_verdict 23 = .ok (.iaload, 1) := by decide +kernel
theorem dX1_verdict_24 : decode cX1_verdict 24 = .ok (.ifCond .ne 24, 3) := by decide +kernel
theorem dX1_verdict_27 : decode cX1_verdict 27 = .ok (.aload_n 0, 1) := by decide +kernel
theorem dX1_verdict_28 : decode cX1_verdict 28 = .ok (.getfield 41, 3) := by decide +kernel
theorem dX1_verdict_31 : decode cX1_verdict 31 = .ok (.iload_n 1, 1) := by decide +kernel
theorem dX1_verdict_32 : decode cX1_verdict 32 = .ok (.iaload, 1) := by decide +kernel
theorem dX1_verdict_33 : decode cX1_verdict 33 = .ok (.aload_n 0, 1) := by decide +kernel
theorem dX1_verdict_34 : decode cX1_verdict 34 = .ok (.getfield 44, 3) := by decide +kernel
theorem dX1_verdict_37 : decode cX1_verdict 37 = .ok (.iload_n 1, 1) := by decide +kernel
theorem dX1_verdict_38 : decode cX1_verdict 38 = .ok (.iaload, 1) := by decide +kernel
theorem dX1_verdict_39 : decode cX1_verdict 39 = .ok (.ior, 1) := by decide +kernel
theorem dX1_verdict_40 : decode cX1_verdict 40 = .ok (.iload_n 2, 1) := by decide +kernel
theorem dX1_verdict_41 : decode cX1_verdict 41 = .ok (.ishr, 1) := by decide +kernel
theorem dX1_verdict_42 : decode cX1_verdict 42 = .ok (.iconst 1, 1) := by decide +kernel
theorem dX1_verdict_43 : decode cX1_verdict 43 = .ok (.iand, 1) := by decide +kernel
theorem dX1_verdict_44 : decode cX1_verdict 44 = .ok (.iconst 1, 1) := by decide +kernel
theorem dX1_verdict_45 : decode cX1_verdict 45 = .ok (.if_icmp .ne 5, 3) := by decide +kernel
theorem dX1_verdict_48 : decode cX1_verdict 48 = .ok (.iconst (-1), 1) := by decide +kernel
theorem dX1_verdict_49 : decode cX1_verdict 49 = .ok (.ireturn, 1) := by decide +kernel
theorem dX1_verdict_50 : decode cX1_verdict 50 = .ok (.iload_n 3, 1) := by decide +kernel
theorem dX1_verdict_51 : decode cX1_verdict 51 = .ok (.ifCond .eq 18, 3) := by decide +kernel
theorem dX1_verdict_54 : decode cX1_verdict 54 = .ok (.aload_n 0, 1) := by decide +kernel
theorem dX1_verdict_55 : decode cX1_verdict 55 = .ok (.getfield 41, 3) := by decide +kernel
theorem dX1_verdict_58 : decode cX1_verdict 58 = .ok (.iload_n 1, 1) := by decide +kernel
theorem dX1_verdict_59 : decode cX1_verdict 59 = .ok (.dup2, 1) := by decide +kernel
theorem dX1_verdict_60 : decode cX1_verdict 60 = .ok (.iaload, 1) := by decide +kernel
theorem dX1_verdict_61 : decode cX1_verdict 61 = .ok (.iconst 1, 1) := by decide +kernel
theorem dX1_verdict_62 : decode cX1_verdict 62 = .ok (.iload_n 2, 1) := by decide +kernel
theorem dX1_verdict_63 : decode cX1_verdict 63 = .ok (.ishl, 1) := by decide +kernel
theorem dX1_verdict_64 : decode cX1_verdict 64 = .ok (.ior, 1) := by decide +kernel
theorem dX1_verdict_65 : decode cX1_verdict 65 = .ok (.iastore, 1) := by decide +kernel
theorem dX1_verdict_66 : decode cX1_verdict 66 = .ok (.goto 15, 3) := by decide +kernel
theorem dX1_verdict_69 : decode cX1_verdict 69 = .ok (.aload_n 0, 1) := by decide +kernel
theorem dX1_verdict_70 : decode cX1_verdict 70 = .ok (.getfield 44, 3) := by decide +kernel
theorem dX1_verdict_73 : decode cX1_verdict 73 = .ok (.iload_n 1, 1) := by decide +kernel
theorem dX1_verdict_74 : decode cX1_verdict 74 = .ok (.dup2, 1) := by decide +kernel
theorem dX1_verdict_75 : decode cX1_verdict 75 = .ok (.iaload, 1) := by decide +kernel
theorem dX1_verdict_76 : decode cX1_verdict 76 = .ok (.iconst 1, 1) := by decide +kernel
theorem dX1_verdict_77 : decode cX1_verdict 77 = .ok (.iload_n 2, 1) := by decide +kernel
theorem dX1_verdict_78 : decode cX1_verdict 78 = .ok (.ishl, 1) := by decide +kernel
theorem dX1_verdict_79 : decode cX1_verdict 79 = .ok (.ior, 1) := by decide +kernel
theorem dX1_verdict_80 : decode cX1_verdict 80 = .ok (.iastore, 1) := by decide +kernel
theorem dX1_verdict_81 : decode cX1_verdict 81 = .ok (.iload_n 3, 1) := by decide +kernel
theorem dX1_verdict_82 : decode cX1_verdict 82 = .ok (.ifCond .eq 12, 3) := by decide +kernel
theorem dX1_verdict_85 : decode cX1_verdict 85 = .ok (.aload_n 0, 1) := by decide +kernel
theorem dX1_verdict_86 : decode cX1_verdict 86 = .ok (.getfield 41, 3) := by decide +kernel
theorem dX1_verdict_89 : decode cX1_verdict 89 = .ok (.iload_n 1, 1) := by decide +kernel
theorem dX1_verdict_90 : decode cX1_verdict 90 = .ok (.iaload, 1) := by decide +kernel
theorem dX1_verdict_91 : decode cX1_verdict 91 = .ok (.goto 9, 3) := by decide +kernel
theorem dX1_verdict_94 : decode cX1_verdict 94 = .ok (.aload_n 0, 1) := by decide +kernel
theorem dX1_verdict_95 : decode cX1_verdict 95 = .ok (.getfield 44, 3) := by decide +kernel
theorem dX1_verdict_98 : decode cX1_verdict 98 = .ok (.iload_n 1, 1) := by decide +kernel
theorem dX1_verdict_99 : decode cX1_verdict 99 = .ok (.iaload, 1) := by decide +kernel
theorem dX1_verdict_100 : decode cX1_verdict 100 = .ok (.invokestatic 120, 3) := by decide +kernel
theorem dX1_verdict_103 : decode cX1_verdict 103 = .ok (.iconst 2, 1) := by decide +kernel
theorem dX1_verdict_104 : decode cX1_verdict 104 = .ok (.if_icmp .ge 5, 3) := by decide +kernel
theorem dX1_verdict_107 : decode cX1_verdict 107 = .ok (.iconst 0, 1) := by decide +kernel
theorem dX1_verdict_108 : decode cX1_verdict 108 = .ok (.ireturn, 1) := by decide +kernel
theorem dX1_verdict_109 : decode cX1_verdict 109 = .ok (.aload_n 0, 1) := by decide +kernel
theorem dX1_verdict_110 : decode cX1_verdict 110 = .ok (.getfield 38, 3) := by decide +kernel
theorem dX1_verdict_113 : decode cX1_verdict 113 = .ok (.iload_n 1, 1) := by decide +kernel
theorem dX1_verdict_114 : decode cX1_verdict 114 = .ok (.iload_n 3, 1) := by decide +kernel
theorem dX1_verdict_115 : decode cX1_verdict 115 = .ok (.ifCond .eq 7, 3) := by decide +kernel
theorem dX1_verdict_118 : decode cX1_verdict 118 = .ok (.iconst 1, 1) := by decide +kernel
theorem dX1_verdict_119 : decode cX1_verdict 119 = .ok (.goto 4, 3) := by decide +kernel
theorem dX1_verdict_122 : decode cX1_verdict 122 = .ok (.iconst 2, 1) := by decide +kernel
theorem dX1_verdict_123 : decode cX1_verdict 123 = .ok (.iastore, 1) := by decide +kernel
theorem dX1_verdict_124 : decode cX1_verdict 124 = .ok (.iconst 1, 1) := by decide +kernel
theorem dX1_verdict_125 : decode cX1_verdict 125 = .ok (.ireturn, 1) := by decide +kernel
theorem dX1_isAlarm_0 : decode cX1_isAlarm 0 = .ok (.iload_n 1, 1) := by decide +kernel
theorem dX1_isAlarm_1 : decode cX1_isAlarm 1 = .ok (.iconst 0, 1) := by decide +kernel
theorem dX1_isAlarm_2 : decode cX1_isAlarm 2 = .ok (.aload_n 0, 1) := by decide +kernel
theorem dX1_isAlarm_3 : decode cX1_isAlarm 3 = .ok (.getfield 93, 3) := by decide +kernel
theorem dX1_isAlarm_6 : decode cX1_isAlarm 6 = .ok (.iconst 1, 1) := by decide +kernel
theorem dX1_isAlarm_7 : decode cX1_isAlarm 7 = .ok (.isub, 1) := by decide +kernel
theorem dX1_isAlarm_8 : decode cX1_isAlarm 8 = .ok (.invokestatic 96, 3) := by decide +kernel
theorem dX1_isAlarm_11 : decode cX1_isAlarm 11 = .ok (.ireturn, 1) := by decide +kernel
theorem dX1_many_0 : decode cX1_many 0 = .ok (.iconst 0, 1) := by decide +kernel
theorem dX1_many_1 : decode cX1_many 1 = .ok (.istore_n 1, 1) := by decide +kernel
theorem dX1_many_2 : decode cX1_many 2 = .ok (.iload_n 0, 1) := by decide +kernel
theorem dX1_many_3 : decode cX1_many 3 = .ok (.istore_n 2, 1) := by decide +kernel
theorem dX1_many_4 : decode cX1_many 4 = .ok (.iload_n 2, 1) := by decide +kernel
theorem dX1_many_5 : decode cX1_many 5 = .ok (.ifCond .le 16, 3) := by decide +kernel
theorem dX1_many_8 : decode cX1_many 8 = .ok (.iload_n 1, 1) := by decide +kernel
theorem dX1_many_9 : decode cX1_many 9 = .ok (.iload_n 2, 1) := by decide +kernel
theorem dX1_many_10 : decode cX1_many 10 = .ok (.iconst 1, 1) := by decide +kernel
theorem dX1_many_11 : decode cX1_many 11 = .ok (.iand, 1) := by decide +kernel
theorem dX1_many_12 : decode cX1_many 12 = .ok (.iadd, 1) := by decide +kernel
theorem dX1_many_13 : decode cX1_many 13 = .ok (.istore_n 1, 1) := by decide +kernel
theorem dX1_many_14 : decode cX1_many 14 = .ok (.iload_n 2, 1) := by decide +kernel
theorem dX1_many_15 : decode cX1_many 15 = .ok (.iconst 1, 1) := by decide +kernel
theorem dX1_many_16 : decode cX1_many 16 = .ok (.ishr, 1) := by decide +kernel
theorem dX1_many_17 : decode cX1_many 17 = .ok (.istore_n 2, 1) := by decide +kernel
theorem dX1_many_18 : decode cX1_many 18 = .ok (.goto (-14), 3) := by decide +kernel
theorem dX1_many_21 : decode cX1_many 21 = .ok (.iload_n 1, 1) := by decide +kernel
theorem dX1_many_22 : decode cX1_many 22 = .ok (.ireturn, 1) := by decide +kernel
theorem dX1_tie_0 : decode cX1_tie 0 = .ok (.aload_n 0, 1) := by decide +kernel
theorem dX1_tie_1 : decode cX1_tie 1 = .ok (.iload_n 1, 1) := by decide +kernel
theorem dX1_tie_2 : decode cX1_tie 2 = .ok (.invokevirtual 117, 3) := by decide +kernel
theorem dX1_tie_5 : decode cX1_tie 5 = .ok (.ifCond .eq 16, 3) := by decide +kernel
theorem dX1_tie_8 : decode cX1_tie 8 = .ok (.aload_n 0, 1) := by decide +kernel
theorem dX1_tie_9 : decode cX1_tie 9 = .ok (.iload_n 2, 1) := by decide +kernel
theorem dX1_tie_10 : decode cX1_tie 10 = .ok (.invokevirtual 117, 3) := by decide +kernel
theorem dX1_tie_13 : decode cX1_tie 13 = .ok (.ifCond .eq 8, 3) := by decide +kernel
theorem dX1_tie_16 : decode cX1_tie 16 = .ok (.iload_n 1, 1) := by decide +kernel
theorem dX1_tie_17 : decode cX1_tie 17 = .ok (.iload_n 2, 1) := by decide +kernel
theorem dX1_tie_18 : decode cX1_tie 18 = .ok (.if_icmp .ne 5, 3) := by decide +kernel
theorem dX1_tie_21 : decode cX1_tie 21 = .ok (.iconst 0, 1) := by decide +kernel
theorem dX1_tie_22 : decode cX1_tie 22 = .ok (.ireturn, 1) := by decide +kernel
theorem dX1_tie_23 : decode cX1_tie 23 = .ok (.aload_n 0, 1) := by decide +kernel
theorem dX1_tie_24 : decode cX1_tie 24 = .ok (.iload_n 1, 1) := by decide +kernel
theorem dX1_tie_25 : decode cX1_tie 25 = .ok (.iload_n 2, 1) := by decide +kernel
theorem dX1_tie_26 : decode cX1_tie 26 = .ok (.invokevirtual 127, 3) := by decide +kernel
theorem dX1_tie_29 : decode cX1_tie 29 = .ok (.istore 4, 2) := by decide +kernel
theorem dX1_tie_31 : decode cX1_tie 31 = .ok (.iload 4, 2) := by decide +kernel
theorem dX1_tie_33 : decode cX1_tie 33 = .ok (.iconst (-1), 1) := by decide +kernel
theorem dX1_tie_34 : decode cX1_tie 34 = .ok (.if_icmp .eq 14, 3) := by decide +kernel
theorem dX1_tie_37 : decode cX1_tie 37 = .ok (.aload_n 0, 1) := by decide +kernel
theorem dX1_tie_38 : decode cX1_tie 38 = .ok (.getfield 69, 3) := by decide +kernel
theorem dX1_tie_41 : decode cX1_tie 41 = .ok (.iload 4, 2) := by decide +kernel
theorem dX1_tie_43 : decode cX1_tie 43 = .ok (.baload, 1) := by decide +kernel
theorem dX1_tie_44 : decode cX1_tie 44 = .ok (.iload_n 3, 1) := by decide +kernel
theorem dX1_tie_45 : decode cX1_tie 45 = .ok (.if_icmp .eq 18, 3) := by decide +kernel
theorem dX1_tie_48 : decode cX1_tie 48 = .ok (.iload 4, 2) := by decide +kernel
theorem dX1_tie_50 : decode cX1_tie 50 = .ok (.iconst (-1), 1) := by decide +kernel
theorem dX1_tie_51 : decode cX1_tie 51 = .ok (.if_icmp .ne 14, 3) := by decide +kernel
theorem dX1_tie_54 : decode cX1_tie 54 = .ok (.aload_n 0, 1) := by decide +kernel
theorem dX1_tie_55 : decode cX1_tie 55 = .ok (.getfield 124, 3) := by decide +kernel
theorem dX1_tie_58 : decode cX1_tie 58 = .ok (.bipush 60, 2) := by decide +kernel
theorem dX1_tie_60 : decode cX1_tie 60 = .ok (.if_icmp .ne 5, 3) := by decide +kernel
theorem dX1_tie_63 : decode cX1_tie 63 = .ok (.iconst 0, 1) := by decide +kernel
theorem dX1_tie_64 : decode cX1_tie 64 = .ok (.ireturn, 1) := by decide +kernel
theorem dX1_tie_65 : decode cX1_tie 65 = .ok (.iload 4, 2) := by decide +kernel
theorem dX1_tie_67 : decode cX1_tie 67 = .ok (.iconst (-1), 1) := by decide +kernel
theorem dX1_tie_68 : decode cX1_tie 68 = .ok (.if_icmp .ne 19, 3) := by decide +kernel
theorem dX1_tie_71 : decode cX1_tie 71 = .ok (.aload_n 0, 1) := by decide +kernel
theorem dX1_tie_72 : decode cX1_tie 72 = .ok (.getfield 124, 3) := by decide +kernel
theorem dX1_tie_75 : decode cX1_tie 75 = .ok (.istore 4, 2) := by decide +kernel
theorem dX1_tie_77 : decode cX1_tie 77 = .ok (.aload_n 0, 1) := by decide +kernel
theorem dX1_tie_78 : decode cX1_tie 78 = .ok (.dup, 1) := by decide +kernel
theorem dX1_tie_79 : decode cX1_tie 79 = .ok (.getfield 124, 3) := by decide +kernel
theorem dX1_tie_82 : decode cX1_tie 82 = .ok (.iconst 1, 1) := by decide +kernel
theorem dX1_tie_83 : decode cX1_tie 83 = .ok (.iadd, 1) := by decide +kernel
theorem dX1_tie_84 : decode cX1_tie 84 = .ok (.putfield 124, 3) := by decide +kernel
theorem dX1_tie_87 : decode cX1_tie 87 = .ok (.aload_n 0, 1) := by decide +kernel
theorem dX1_tie_88 : decode cX1_tie 88 = .ok (.getfield 63, 3) := by decide +kernel
theorem dX1_tie_91 : decode cX1_tie 91 = .ok (.iload 4, 2) := by decide +kernel
theorem dX1_tie_93 : decode cX1_tie 93 = .ok (.iload_n 1, 1) := by decide +kernel
theorem dX1_tie_94 : decode cX1_tie 94 = .ok (.iastore, 1) := by decide +kernel
theorem dX1_tie_95 : decode cX1_tie 95 = .ok (.aload_n 0, 1) := by decide +kernel
theorem dX1_tie_96 : decode cX1_tie 96 = .ok (.getfield 66, 3) := by decide +kernel
theorem dX1_tie_99 : decode cX1_tie 99 = .ok (.iload 4, 2) := by decide +kernel
theorem dX1_tie_101 : decode cX1_tie 101 = .ok (.iload_n 2, 1) := by decide +kernel
theorem dX1_tie_102 : decode cX1_tie 102 = .ok (.iastore, 1) := by decide +kernel
theorem dX1_tie_103 : decode cX1_tie 103 = .ok (.aload_n 0, 1) := by decide +kernel
theorem dX1_tie_104 : decode cX1_tie 104 = .ok (.getfield 69, 3) := by decide +kernel
theorem dX1_tie_107 : decode cX1_tie 107 = .ok (.iload 4, 2) := by decide +kernel
theorem dX1_tie_109 : decode cX1_tie 109 = .ok (.iload_n 3, 1) := by decide +kernel
theorem dX1_tie_110 : decode cX1_tie 110 = .ok (.bastore, 1) := by decide +kernel
theorem dX1_tie_111 : decode cX1_tie 111 = .ok (.iconst 1, 1) := by decide +kernel
theorem dX1_tie_112 : decode cX1_tie 112 = .ok (.ireturn, 1) := by decide +kernel
theorem dX1_tieOf_0 : decode cX1_tieOf 0 = .ok (.iconst 0, 1) := by decide +kernel
theorem dX1_tieOf_1 : decode cX1_tieOf 1 = .ok (.istore_n 3, 1) := by decide +kernel
theorem dX1_tieOf_2 : decode cX1_tieOf 2 = .ok (.iload_n 3, 1) := by decide +kernel
theorem dX1_tieOf_3 : decode cX1_tieOf 3 = .ok (.aload_n 0, 1) := by decide +kernel
theorem dX1_tieOf_4 : decode cX1_tieOf 4 = .ok (.getfield 124, 3) := by decide +kernel
theorem dX1_tieOf_7 : decode cX1_tieOf 7 = .ok (.if_icmp .ge 51, 3) := by decide +kernel
theorem dX1_tieOf_10 : decode cX1_tieOf 10 = .ok (.aload_n 0, 1) := by decide +kernel
theorem dX1_tieOf_11 : decode cX1_tieOf 11 = .ok (.getfield 63, 3) := by decide +kernel
theorem dX1_tieOf_14 : decode cX1_tieOf 14 = .ok (.iload_n 3, 1) := by decide +kernel
theorem dX1_tieOf_15 : decode cX1_tieOf 15 = .ok (.iaload, 1) := by decide +kernel
theorem dX1_tieOf_16 : decode cX1_tieOf 16 = .ok (.iload_n 1, 1) := by decide +kernel
theorem dX1_tieOf_17 : decode cX1_tieOf 17 = .ok (.if_icmp .ne 13, 3) := by decide +kernel
theorem dX1_tieOf_20 : decode cX1_tieOf 20 = .ok (.aload_n 0, 1) := by decide +kernel
theorem dX1_tieOf_21 : decode cX1_tieOf 21 = .ok (.getfield 66, 3) := by decide +kernel
theorem dX1_tieOf_24 : decode cX1_tieOf 24 = .ok (.iload_n 3, 1) := by decide +kernel
theorem dX1_tieOf_25 : decode cX1_tieOf 25 = .ok (.iaload, 1) := by decide +kernel
theorem dX1_tieOf_26 : decode cX1_tieOf 26 = .ok (.iload_n 2, 1) := by decide +kernel
theorem dX1_tieOf_27 : decode cX1_tieOf 27 = .ok (.if_icmp .eq 23, 3) := by decide +kernel
theorem dX1_tieOf_30 : decode cX1_tieOf 30 = .ok (.aload_n 0, 1) := by decide +kernel
theorem dX1_tieOf_31 : decode cX1_tieOf 31 = .ok (.getfield 63, 3) := by decide +kernel
theorem dX1_tieOf_34 : decode cX1_tieOf 34 = .ok (.iload_n 3, 1) := by decide +kernel
theorem dX1_tieOf_35 : decode cX1_tieOf 35 = .ok (.iaload, 1) := by decide +kernel
theorem dX1_tieOf_36 : decode cX1_tieOf 36 = .ok (.iload_n 2, 1) := by decide +kernel
theorem dX1_tieOf_37 : decode cX1_tieOf 37 = .ok (.if_icmp .ne 15, 3) := by decide +kernel
theorem dX1_tieOf_40 : decode cX1_tieOf 40 = .ok (.aload_n 0, 1) := by decide +kernel
theorem dX1_tieOf_41 : decode cX1_tieOf 41 = .ok (.getfield 66, 3) := by decide +kernel
theorem dX1_tieOf_44 : decode cX1_tieOf 44 = .ok (.iload_n 3, 1) := by decide +kernel
theorem dX1_tieOf_45 : decode cX1_tieOf 45 = .ok (.iaload, 1) := by decide +kernel
theorem dX1_tieOf_46 : decode cX1_tieOf 46 = .ok (.iload_n 1, 1) := by decide +kernel
theorem dX1_tieOf_47 : decode cX1_tieOf 47 = .ok (.if_icmp .ne 5, 3) := by decide +kernel
theorem dX1_tieOf_50 : decode cX1_tieOf 50 = .ok (.iload_n 3, 1) := by decide +kernel
theorem dX1_tieOf_51 : decode cX1_tieOf 51 = .ok (.ireturn, 1) := by decide +kernel
theorem dX1_tieOf_52 : decode cX1_tieOf 52 = .ok (.iinc 3 1, 3) := by decide +kernel
theorem dX1_tieOf_55 : decode cX1_tieOf 55 = .ok (.goto (-53), 3) := by decide +kernel
theorem dX1_tieOf_58 : decode cX1_tieOf 58 = .ok (.iconst (-1), 1) := by decide +kernel
theorem dX1_tieOf_59 : decode cX1_tieOf 59 = .ok (.ireturn, 1) := by decide +kernel
theorem dX1_node_0 : decode cX1_node 0 = .ok (.iload_n 1, 1) := by decide +kernel
theorem dX1_node_1 : decode cX1_node 1 = .ok (.iconst 0, 1) := by decide +kernel
theorem dX1_node_2 : decode cX1_node 2 = .ok (.iconst 4, 1) := by decide +kernel
theorem dX1_node_3 : decode cX1_node 3 = .ok (.invokestatic 96, 3) := by decide +kernel
theorem dX1_node_6 : decode cX1_node 6 = .ok (.ifCond .eq 14, 3) := by decide +kernel
theorem dX1_node_9 : decode cX1_node 9 = .ok (.iload_n 2, 1) := by decide +kernel
theorem dX1_node_10 : decode cX1_node 10 = .ok (.iconst 0, 1) := by decide +kernel
theorem dX1_node_11 : decode cX1_node 11 = .ok (.sipush 4095, 3) := by decide +kernel
theorem dX1_node_14 : decode cX1_node 14 = .ok (.invokestatic 96, 3) := by decide +kernel
theorem dX1_node_17 : decode cX1_node 17 = .ok (.ifCond .ne 5, 3) := by decide +kernel
theorem dX1_node_20 : decode cX1_node 20 = .ok (.iconst (-1), 1) := by decide +kernel
theorem dX1_node_21 : decode cX1_node 21 = .ok (.ireturn, 1) := by decide +kernel
