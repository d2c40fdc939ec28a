set_option maxRecDepth 100000
theorem dX1_slow_10 : decode cX1_slow 10 = .ok (.iconst (-1), 1) := by decide +kernel
theorem dX1_slow_11 : decode cX1_slow 11 = .ok (.ireturn, 1) := by decide +kernel
theorem dX1_slow_12 : decode cX1_slow 12 = .ok (.iconst 0, 1) := by decide +kernel
theorem dX1_slow_13 : decode cX1_slow 13 = .ok (.istore_n 2, 1) := by decide +kernel
theorem dX1_slow_14 : decode cX1_slow 14 = .ok (.iconst 0, 1) := by decide +kernel
theorem dX1_slow_15 : decode cX1_slow 15 = .ok (.istore_n 3, 1) := by decide +kernel
theorem dX1_slow_16 : decode cX1_slow 16 = .ok (.iload_n 3, 1) := by decide +kernel
theorem dX1_slow_17 : decode cX1_slow 17 = .ok (.aload_n 0, 1) := by decide +kernel
theorem dX1_slow_18 : decode cX1_slow 18 = .ok (.getfield 93, 3) := by decide +kernel
theorem dX1_slow_21 : decode cX1_slow 21 = .ok (.if_icmp .ge 69, 3) := by decide +kernel
theorem dX1_slow_24 : decode cX1_slow 24 = .ok (.aload_n 0, 1) := by decide +kernel
theorem dX1_slow_25 : decode cX1_slow 25 = .ok (.iload_n 3, 1) := by decide +kernel
theorem dX1_slow_26 : decode cX1_slow 26 = .ok (.invokevirtual 103, 3) := by decide +kernel
theorem dX1_slow_29 : decode cX1_slow 29 = .ok (.ifCond .eq 55, 3) := by decide +kernel
theorem dX1_slow_32 : decode cX1_slow 32 = .ok (.aload_n 0, 1) := by decide +kernel
theorem dX1_slow_33 : decode cX1_slow 33 = .ok (.getfield 26, 3) := by decide +kernel
theorem dX1_slow_36 : decode cX1_slow 36 = .ok (.iload_n 3, 1) := by decide +kernel
theorem dX1_slow_37 : decode cX1_slow 37 = .ok (.iaload, 1) := by decide +kernel
theorem dX1_slow_38 : decode cX1_slow 38 = .ok (.iload_n 1, 1) := by decide +kernel
theorem dX1_slow_39 : decode cX1_slow 39 = .ok (.if_icmp .ne 45, 3) := by decide +kernel
theorem dX1_slow_42 : decode cX1_slow 42 = .ok (.aload_n 0, 1) := by decide +kernel
theorem dX1_slow_43 : decode cX1_slow 43 = .ok (.getfield 100, 3) := by decide +kernel
theorem dX1_slow_46 : decode cX1_slow 46 = .ok (.aload_n 0, 1) := by decide +kernel
theorem dX1_slow_47 : decode cX1_slow 47 = .ok (.getfield 16, 3) := by decide +kernel
theorem dX1_slow_50 : decode cX1_slow 50 = .ok (.iload_n 3, 1) := by decide +kernel
theorem dX1_slow_51 : decode cX1_slow 51 = .ok (.iaload, 1) := by decide +kernel
theorem dX1_slow_52 : decode cX1_slow 52 = .ok (.isub, 1) := by decide +kernel
theorem dX1_slow_53 : decode cX1_slow 53 = .ok (.sipush 200, 3) := by decide +kernel
theorem dX1_slow_56 : decode cX1_slow 56 = .ok (.if_icmp .lt 6, 3) := by decide +kernel
theorem dX1_slow_59 : decode cX1_slow 59 = .ok (.goto 25, 3) := by decide +kernel
theorem dX1_slow_62 : decode cX1_slow 62 = .ok (.aload_n 0, 1) := by decide +kernel
theorem dX1_slow_63 : decode cX1_slow 63 = .ok (.iload_n 3, 1) := by decide +kernel
theorem dX1_slow_64 : decode cX1_slow 64 = .ok (.invokevirtual 152, 3) := by decide +kernel
theorem dX1_slow_67 : decode cX1_slow 67 = .ok (.istore 4, 2) := by decide +kernel
theorem dX1_slow_69 : decode cX1_slow 69 = .ok (.iload 4, 2) := by decide +kernel
theorem dX1_slow_71 : decode cX1_slow 71 = .ok (.sipush 10000, 3) := by decide +kernel
theorem dX1_slow_74 : decode cX1_slow 74 = .ok (.if_icmp .lt 5, 3) := by decide +kernel
theorem dX1_slow_77 : decode cX1_slow 77 = .ok (.iconst (-1), 1) := by decide +kernel
theorem dX1_slow_78 : decode cX1_slow 78 = .ok (.ireturn, 1) := by decide +kernel
theorem dX1_slow_79 : decode cX1_slow 79 = .ok (.iload_n 2, 1) := by decide +kernel
theorem dX1_slow_80 : decode cX1_slow 80 = .ok (.iload 4, 2) := by decide +kernel
theorem dX1_slow_82 : decode cX1_slow 82 = .ok (.iadd, 1) := by decide +kernel
theorem dX1_slow_83 : decode cX1_slow 83 = .ok (.istore_n 2, 1) := by decide +kernel
theorem dX1_slow_84 : decode cX1_slow 84 = .ok (.iinc 3 1, 3) := by decide +kernel
theorem dX1_slow_87 : decode cX1_slow 87 = .ok (.goto (-71), 3) := by decide +kernel
theorem dX1_slow_90 : decode cX1_slow 90 = .ok (.iload_n 2, 1) := by decide +kernel
theorem dX1_slow_91 : decode cX1_slow 91 = .ok (.sipush 30000, 3) := by decide +kernel
theorem dX1_slow_94 : decode cX1_slow 94 = .ok (.if_icmp .le 7, 3) := by decide +kernel
theorem dX1_slow_97 : decode cX1_slow 97 = .ok (.iload_n 2, 1) := by decide +kernel
theorem dX1_slow_98 : decode cX1_slow 98 = .ok (.goto 4, 3) := by decide +kernel
theorem dX1_slow_101 : decode cX1_slow 101 = .ok (.iconst (-1), 1) := by decide +kernel
theorem dX1_slow_102 : decode cX1_slow 102 = .ok (.ireturn, 1) := by decide +kernel
theorem dX1_plan_0 : decode cX1_plan 0 = .ok (.iload_n 1, 1) := by decide +kernel
theorem dX1_plan_1 : decode cX1_plan 1 = .ok (.invokestatic 189, 3) := by decide +kernel
theorem dX1_plan_4 : decode cX1_plan 4 = .ok (.ifCond .ne 5, 3) := by decide +kernel
theorem dX1_plan_7 : decode cX1_plan 7 = .ok (.iconst (-1), 1) := by decide +kernel
theorem dX1_plan_8 : decode cX1_plan 8 = .ok (.ireturn, 1) := by decide +kernel
theorem dX1_plan_9 : decode cX1_plan 9 = .ok (.aload_n 0, 1) := by decide +kernel
theorem dX1_plan_10 : decode cX1_plan 10 = .ok (.iload_n 1, 1) := by decide +kernel
theorem dX1_plan_11 : decode cX1_plan 11 = .ok (.invokevirtual 192, 3) := by decide +kernel
theorem dX1_plan_14 : decode cX1_plan 14 = .ok (.iload_n 2, 1) := by decide +kernel
theorem dX1_plan_15 : decode cX1_plan 15 = .ok (.iconst (-1), 1) := by decide +kernel
theorem dX1_plan_16 : decode cX1_plan 16 = .ok (.if_icmp .ne 10, 3) := by decide +kernel
theorem dX1_plan_19 : decode cX1_plan 19 = .ok (.aload_n 0, 1) := by decide +kernel
theorem dX1_plan_20 : decode cX1_plan 20 = .ok (.getfield 183, 3) := by decide +kernel
theorem dX1_plan_23 : decode cX1_plan 23 = .ok (.goto 27, 3) := by decide +kernel
theorem dX1_plan_26 : decode cX1_plan 26 = .ok (.iload_n 2, 1) := by decide +kernel
theorem dX1_plan_27 : decode cX1_plan 27 = .ok (.iconst 0, 1) := by decide +kernel
theorem dX1_plan_28 : decode cX1_plan 28 = .ok (.aload_n 0, 1) := by decide +kernel
theorem dX1_plan_29 : decode cX1_plan 29 = .ok (.getfield 183, 3) := by decide +kernel
theorem dX1_plan_32 : decode cX1_plan 32 = .ok (.iconst 1, 1) := by decide +kernel
theorem dX1_plan_33 : decode cX1_plan 33 = .ok (.isub, 1) := by decide +kernel
theorem dX1_plan_34 : decode cX1_plan 34 = .ok (.invokestatic 96, 3) := by decide +kernel
theorem dX1_plan_37 : decode cX1_plan 37 = .ok (.ifCond .eq 12, 3) := by decide +kernel
theorem dX1_plan_40 : decode cX1_plan 40 = .ok (.aload_n 0, 1) := by decide +kernel
theorem dX1_plan_41 : decode cX1_plan 41 = .ok (.getfield 81, 3) := by decide +kernel
theorem dX1_plan_44 : decode cX1_plan 44 = .ok (.iload_n 2, 1) := by decide +kernel
theorem dX1_plan_45 : decode cX1_plan 45 = .ok (.iaload, 1) := by decide +kernel
theorem dX1_plan_46 : decode cX1_plan 46 = .ok (.goto 4, 3) := by decide +kernel
theorem dX1_plan_49 : decode cX1_plan 49 = .ok (.iconst (-1), 1) := by decide +kernel
theorem dX1_plan_50 : decode cX1_plan 50 = .ok (.ireturn, 1) := by decide +kernel
theorem dX1_isPlan_0 : decode cX1_isPlan 0 = .ok (.iload_n 0, 1) := by decide +kernel
theorem dX1_isPlan_1 : decode cX1_isPlan 1 = .ok (.iconst 0, 1) := by decide +kernel
theorem dX1_isPlan_2 : decode cX1_isPlan 2 = .ok (.sipush 300, 3) := by decide +kernel
theorem dX1_isPlan_5 : decode cX1_isPlan 5 = .ok (.invokestatic 96, 3) := by decide +kernel
theorem dX1_isPlan_8 : decode cX1_isPlan 8 = .ok (.ireturn, 1) := by decide +kernel
theorem dX1_plans_0 : decode cX1_plans 0 = .ok (.aload_n 0, 1) := by decide +kernel
theorem dX1_plans_1 : decode cX1_plans 1 = .ok (.invokevirtual 174, 3) := by decide +kernel
theorem dX1_plans_4 : decode cX1_plans 4 = .ok (.aload_n 0, 1) := by decide +kernel
theorem dX1_plans_5 : decode cX1_plans 5 = .ok (.iconst 0, 1) := by decide +kernel
theorem dX1_plans_6 : decode cX1_plans 6 = .ok (.putfield 183, 3) := by decide +kernel
theorem dX1_plans_9 : decode cX1_plans 9 = .ok (.iload_n 1, 1) := by decide +kernel
theorem dX1_plans_10 : decode cX1_plans 10 = .ok (.istore_n 2, 1) := by decide +kernel
theorem dX1_plans_11 : decode cX1_plans 11 = .ok (.iconst 0, 1) := by decide +kernel
theorem dX1_plans_12 : decode cX1_plans 12 = .ok (.istore_n 3, 1) := by decide +kernel
theorem dX1_plans_13 : decode cX1_plans 13 = .ok (.iload_n 3, 1) := by decide +kernel
theorem dX1_plans_14 : decode cX1_plans 14 = .ok (.aload_n 0, 1) := by decide +kernel
theorem dX1_plans_15 : decode cX1_plans 15 = .ok (.getfield 165, 3) := by decide +kernel
theorem dX1_plans_18 : decode cX1_plans 18 = .ok (.if_icmp .ge 88, 3) := by decide +kernel
theorem dX1_plans_21 : decode cX1_plans 21 = .ok (.aload_n 0, 1) := by decide +kernel
theorem dX1_plans_22 : decode cX1_plans 22 = .ok (.getfield 183, 3) := by decide +kernel
theorem dX1_plans_25 : decode cX1_plans 25 = .ok (.aload_n 0, 1) := by decide +kernel
theorem dX1_plans_26 : decode cX1_plans 26 = .ok (.getfield 114, 3) := by decide +kernel
theorem dX1_plans_29 : decode cX1_plans 29 = .ok (.if_icmp .ge 77, 3) := by decide +kernel
theorem dX1_plans_32 : decode cX1_plans 32 = .ok (.aload_n 0, 1) := by decide +kernel
theorem dX1_plans_33 : decode cX1_plans 33 = .ok (.aload_n 0, 1) := by decide +kernel
theorem dX1_plans_34 : decode cX1_plans 34 = .ok (.getfield 78, 3) := by decide +kernel
theorem dX1_plans_37 : decode cX1_plans 37 = .ok (.iload_n 3, 1) := by decide +kernel
theorem dX1_plans_38 : decode cX1_plans 38 = .ok (.iaload, 1) := by decide +kernel
theorem dX1_plans_39 : decode cX1_plans 39 = .ok (.invokevirtual 180, 3) := by decide +kernel
theorem dX1_plans_42 : decode cX1_plans 42 = .ok (.ifCond .eq 58, 3) := by decide +kernel
theorem dX1_plans_45 : decode cX1_plans 45 = .ok (.aload_n 0, 1) := by decide +kernel
theorem dX1_plans_46 : decode cX1_plans 46 = .ok (.aload_n 0, 1) := by decide +kernel
theorem dX1_plans_47 : decode cX1_plans 47 = .ok (.getfield 78, 3) := by decide +kernel
theorem dX1_plans_50 : decode cX1_plans 50 = .ok (.iload_n 3, 1) := by decide +kernel
theorem dX1_plans_51 : decode cX1_plans 51 = .ok (.iaload, 1) := by decide +kernel
theorem dX1_plans_52 : decode cX1_plans 52 = .ok (.invokevirtual 177, 3) := by decide +kernel
theorem dX1_plans_55 : decode cX1_plans 55 = .ok (.iload_n 2, 1) := by decide +kernel
theorem dX1_plans_56 : decode cX1_plans 56 = .ok (.if_icmp .le 6, 3) := by decide +kernel
theorem dX1_plans_59 : decode cX1_plans 59 = .ok (.goto 41, 3) := by decide +kernel
theorem dX1_plans_62 : decode cX1_plans 62 = .ok (.aload_n 0, 1) := by decide +kernel
theorem dX1_plans_63 : decode cX1_plans 63 = .ok (.getfield 81, 3) := by decide +kernel
theorem dX1_plans_66 : decode cX1_plans 66 = .ok (.aload_n 0, 1) := by decide +kernel
theorem dX1_plans_67 : decode cX1_plans 67 = .ok (.getfield 183, 3) := by decide +kernel
theorem dX1_plans_70 : decode cX1_plans 70 = .ok (.aload_n 0, 1) := by decide +kernel
theorem dX1_plans_71 : decode cX1_plans 71 = .ok (.getfield 78, 3) := by decide +kernel
theorem dX1_plans_74 : decode cX1_plans 74 = .ok (.iload_n 3, 1) := by decide +kernel
theorem dX1_plans_75 : decode cX1_plans 75 = .ok (.iaload, 1) := by decide +kernel
theorem dX1_plans_76 : decode cX1_plans 76 = .ok (.iastore, 1) := by decide +kernel
theorem dX1_plans_77 : decode cX1_plans 77 = .ok (.aload_n 0, 1) := by decide +kernel
theorem dX1_plans_78 : decode cX1_plans 78 = .ok (.dup, 1) := by decide +kernel
theorem dX1_plans_79 : decode cX1_plans 79 = .ok (.getfield 183, 3) := by decide +kernel
theorem dX1_plans_82 : decode cX1_plans 82 = .ok (.iconst 1, 1) := by decide +kernel
theorem dX1_plans_83 : decode cX1_plans 83 = .ok (.iadd, 1) := by decide +kernel
theorem dX1_plans_84 : decode cX1_plans 84 = .ok (.putfield 183, 3) := by decide +kernel
theorem dX1_plans_87 : decode cX1_plans 87 = .ok (.iload_n 2, 1) := by decide +kernel
theorem dX1_plans_88 : decode cX1_plans 88 = .ok (.aload_n 0, 1) := by decide +kernel
theorem dX1_plans_89 : decode cX1_plans 89 = .ok (.aload_n 0, 1) := by decide +kernel
theorem dX1_plans_90 : decode cX1_plans 90 = .ok (.getfield 78, 3) := by decide +kernel
theorem dX1_plans_93 : decode cX1_plans 93 = .ok (.iload_n 3, 1) := by decide +kernel
theorem dX1_plans_94 : decode cX1_plans 94 = .ok (.iaload, 1) := by decide +kernel
theorem dX1_plans_95 : decode cX1_plans 95 = .ok (.invokevirtual 177, 3) := by decide +kernel
theorem dX1_plans_98 : decode cX1_plans 98 = .ok (.isub, 1) := by decide +kernel
theorem dX1_plans_99 : decode cX1_plans 99 = .ok (.istore_n 2, 1) := by decide +kernel
theorem dX1_plans_100 : decode cX1_plans 100 = .ok (.iinc 3 1, 3) := by decide +kernel
theorem dX1_plans_103 : decode cX1_plans 103 = .ok (.goto (-90), 3) := by decide +kernel
theorem dX1_plans_106 : decode cX1_plans 106 = .ok (.iconst 0, 1) := by decide +kernel
theorem dX1_plans_107 : decode cX1_plans 107 = .ok (.istore_n 3, 1) := by decide +kernel
theorem dX1_plans_108 : decode cX1_plans 108 = .ok (.iconst 0, 1) := by decide +kernel
theorem dX1_plans_109 : decode cX1_plans 109 = .ok (.istore 4, 2) := by decide +kernel
theorem dX1_plans_111 : decode cX1_plans 111 = .ok (.iload 4, 2) := by decide +kernel
theorem dX1_plans_113 : decode cX1_plans 113 = .ok (.aload_n 0, 1) := by decide +kernel
theorem dX1_plans_114 : decode cX1_plans 114 = .ok (.getfield 165, 3) := by decide +kernel
theorem dX1_plans_117 : decode cX1_plans 117 = .ok (.if_icmp .ge 82, 3) := by decide +kernel
theorem dX1_plans_120 : decode cX1_plans 120 = .ok (.iload_n 3, 1) := by decide +kernel
theorem dX1_plans_121 : decode cX1_plans 121 = .ok (.bipush 12, 2) := by decide +kernel
theorem dX1_plans_123 : decode cX1_plans 123 = .ok (.if_icmp .ge 76, 3) := by decide +kernel
theorem dX1_plans_126 : decode cX1_plans 126 = .ok (.aload_n 0, 1) := by decide +kernel
theorem dX1_plans_127 : decode cX1_plans 127 = .ok (.aload_n 0, 1) := by decide +kernel
theorem dX1_plans_128 : decode cX1_plans 128 = .ok (.getfield 78, 3) := by decide +kernel
theorem dX1_plans_131 : decode cX1_plans 131 = .ok (.iload 4, 2) := by decide +kernel
theorem dX1_plans_133 : decode cX1_plans 133 = .ok (.iaload, 1) := by decide +kernel
theorem dX1_plans_134 : decode cX1_plans 134 = .ok (.invokevirtual 186, 3) := by decide +kernel
theorem dX1_plans_137 : decode cX1_plans 137 = .ok (.ifCond .eq 6, 3) := by decide +kernel
theorem dX1_plans_140 : decode cX1_plans 140 = .ok (.goto 53, 3) := by decide +kernel
theorem dX1_plans_143 : decode cX1_plans 143 = .ok (.aload_n 0, 1) := by decide +kernel
theorem dX1_plans_144 : decode cX1_plans 144 = .ok (.getfield 84, 3) := by decide +kernel
theorem dX1_plans_147 : decode cX1_plans 147 = .ok (.iload_n 3, 1) := by decide +kernel
theorem dX1_plans_148 : decode cX1_plans 148 = .ok (.aload_n 0, 1) := by decide +kernel
theorem dX1_plans_149 : decode cX1_plans 149 = .ok (.getfield 78, 3) := by decide +kernel
theorem dX1_plans_152 : decode cX1_plans 152 = .ok (.iload 4, 2) := by decide +kernel
theorem dX1_plans_154 : decode cX1_plans 154 = .ok (.iaload, 1) := by decide +kernel
theorem dX1_plans_155 : decode cX1_plans 155 = .ok (.iastore, 1) := by decide +kernel
theorem dX1_plans_156 : decode cX1_plans 156 = .ok (.aload_n 0, 1) := by decide +kernel
theorem dX1_plans_157 : decode cX1_plans 157 = .ok (.getfield 87, 3) := by decide +kernel
theorem dX1_plans_160 : decode cX1_plans 160 = .ok (.iload_n 3, 1) := by decide +kernel
theorem dX1_plans_161 : decode cX1_plans 161 = .ok (.aload_n 0, 1) := by decide +kernel
theorem dX1_plans_162 : decode cX1_plans 162 = .ok (.aload_n 0, 1) := by decide +kernel
theorem dX1_plans_163 : decode cX1_plans 163 = .ok (.getfield 78, 3) := by decide +kernel
theorem dX1_plans_166 : decode cX1_plans 166 = .ok (.iload 4, 2) := by decide +kernel
theorem dX1_plans_168 : decode cX1_plans 168 = .ok (.iaload, 1) := by decide +kernel
theorem dX1_plans_169 : decode cX1_plans 169 = .ok (.invokevirtual 177, 3) := by decide +kernel
theorem dX1_plans_172 : decode cX1_plans 172 = .ok (.iastore, 1) := by decide +kernel
theorem dX1_plans_173 : decode cX1_plans 173 = .ok (.aload_n 0, 1) := by decide +kernel
theorem dX1_plans_174 : decode cX1_plans 174 = .ok (.getfield 90, 3) := by decide +kernel
theorem dX1_plans_177 : decode cX1_plans 177 = .ok (.iload_n 3, 1) := by decide +kernel
theorem dX1_plans_178 : decode cX1_plans 178 = .ok (.aload_n 0, 1) := by decide +kernel
theorem dX1_plans_179 : decode cX1_plans 179 = .ok (.aload_n 0, 1) := by decide +kernel
theorem dX1_plans_180 : decode cX1_plans 180 = .ok (.getfield 78, 3) := by decide +kernel
theorem dX1_plans_183 : decode cX1_plans 183 = .ok (.iload 4, 2) := by decide +kernel
theorem dX1_plans_185 : decode cX1_plans 185 = .ok (.iaload, 1) := by decide +kernel
theorem dX1_plans_186 : decode cX1_plans 186 = .ok (.invokevirtual 168, 3) := by decide +kernel
theorem dX1_plans_189 : decode cX1_plans 189 = .ok (.iastore, 1) := by decide +kernel
theorem dX1_plans_190 : decode cX1_plans 190 = .ok (.iinc 3 1, 3) := by decide +kernel
theorem dX1_plans_193 : decode cX1_plans 193 = .ok (.iinc 4 1, 3) := by decide +kernel
theorem dX1_plans_196 : decode cX1_plans 196 = .ok (.goto (-85), 3) := by decide +kernel
theorem dX1_plans_199 : decode cX1_plans 199 = .ok (.iconst 0, 1) := by decide +kernel
theorem dX1_plans_200 : decode cX1_plans 200 = .ok (.istore 4, 2) := by decide +kernel
theorem dX1_plans_202 : decode cX1_plans 202 = .ok (.iconst 0, 1) := by decide +kernel
theorem dX1_plans_203 : decode cX1_plans 203 = .ok (.istore 5, 2) := by decide +kernel
theorem dX1_plans_205 : decode cX1_plans 205 = .ok (.iconst 1, 1) := by decide +kernel
theorem dX1_plans_206 : decode cX1_plans 206 = .ok (.istore 6, 2) := by decide +kernel
theorem dX1_plans_208 : decode cX1_plans 208 = .ok (.iload 6, 2) := by decide +kernel
theorem dX1_plans_210 : decode cX1_plans 210 = .ok (.iconst 1, 1) := by decide +kernel
theorem dX1_plans_211 : decode cX1_plans 211 = .ok (.iload_n 3, 1) := by decide +kernel
theorem dX1_plans_212 : decode cX1_plans 212 = .ok (.ishl, 1) := by decide +kernel
theorem dX1_plans_213 : decode cX1_plans 213 = .ok (.if_icmp .ge 91, 3) := by decide +kernel
theorem dX1_plans_216 : decode cX1_plans 216 = .ok (.iconst 0, 1) := by decide +kernel
theorem dX1_plans_217 : decode cX1_plans 217 = .ok (.istore 7, 2) := by decide +kernel
theorem dX1_plans_219 : decode cX1_plans 219 = .ok (.iconst 0, 1) := by decide +kernel
theorem dX1_plans_220 : decode cX1_plans 220 = .ok (.istore 8, 2) := by decide +kernel
theorem dX1_plans_222 : decode cX1_plans 222 = .ok (.iconst 0, 1) := by decide +kernel
theorem dX1_plans_223 : decode cX1_plans 223 = .ok (.istore 9, 2) := by decide +kernel
theorem dX1_plans_225 : decode cX1_plans 225 = .ok (.iload 9, 2) := by decide +kernel
theorem dX1_plans_227 : decode cX1_plans 227 = .ok (.iload_n 3, 1) := by decide +kernel
theorem dX1_plans_228 : decode cX1_plans 228 = .ok (.if_icmp .ge 46, 3) := by decide +kernel
theorem dX1_plans_231 : decode cX1_plans 231 = .ok (.iload 6, 2) := by decide +kernel
theorem dX1_plans_233 : decode cX1_plans 233 = .ok (.iload 9, 2) := by decide +kernel
theorem dX1_plans_235 : decode cX1_plans 235 = .ok (.ishr, 1) := by decide +kernel
theorem dX1_plans_236 : decode cX1_plans 236 = .ok (.iconst 1, 1) := by decide +kernel
theorem dX1_plans_237 : decode cX1_plans 237 = .ok (.iand, 1) := by decide +kernel
theorem dX1_plans_238 : decode cX1_plans 238 = .ok (.ifCond .ne 6, 3) := by decide +kernel
theorem dX1_plans_241 : decode cX1_plans 241 = .ok (.goto 27, 3) := by decide +kernel
theorem dX1_plans_244 : decode cX1_plans 244 = .ok (.iload 7, 2) := by decide +kernel
theorem dX1_plans_246 : decode cX1_plans 246 = .ok (.aload_n 0, 1) := by decide +kernel
theorem dX1_plans_247 : decode cX1_plans 247 = .ok (.getfield 87, 3) := by decide +kernel
theorem dX1_plans_250 : decode cX1_plans 250 = .ok (.iload 9, 2) := by decide +kernel
theorem dX1_plans_252 : decode cX1_plans 252 = .ok (.iaload, 1) := by decide +kernel
theorem dX1_plans_253 : decode cX1_plans 253 = .ok (.iadd, 1) := by decide +kernel
theorem dX1_plans_254 : decode cX1_plans 254 = .ok (.istore 7, 2) := by decide +kernel
theorem dX1_plans_256 : decode cX1_plans 256 = .ok (.iload 8, 2) := by decide +kernel
theorem dX1_plans_258 : decode cX1_plans 258 = .ok (.aload_n 0, 1) := by decide +kernel
theorem dX1_plans_259 : decode cX1_plans 259 = .ok (.getfield 90, 3) := by decide +kernel
theorem dX1_plans_262 : decode cX1_plans 262 = .ok (.iload 9, 2) := by decide +kernel
theorem dX1_plans_264 : decode cX1_plans 264 = .ok (.iaload, 1) := by decide +kernel
theorem dX1_plans_265 : decode cX1_plans 265 = .ok (.iadd, 1) := by decide +kernel
theorem dX1_plans_266 : decode cX1_plans 266 = .ok (.istore 8, 2) := by decide +kernel
theorem dX1_plans_268 : decode cX1_plans 268 = .ok (.iinc 9 1, 3) := by decide +kernel
theorem dX1_plans_271 : decode cX1_plans 271 = .ok (.goto (-46), 3) := by decide +kernel
theorem dX1_plans_274 : decode cX1_plans 274 = .ok (.iload 7, 2) := by decide +kernel
theorem dX1_plans_276 : decode cX1_plans 276 = .ok (.iload_n 2, 1) := by decide +kernel
theorem dX1_plans_277 : decode cX1_plans 277 = .ok (.if_icmp .gt 21, 3) := by decide +kernel
theorem dX1_plans_280 : decode cX1_plans 280 = .ok (.iload 8, 2) := by decide +kernel
theorem dX1_plans_282 : decode cX1_plans 282 = .ok (.iload 5, 2) := by decide +kernel
theorem dX1_plans_284 : decode cX1_plans 284 = .ok (.if_icmp .gt 6, 3) := by decide +kernel
theorem dX1_plans_287 : decode cX1_plans 287 = .ok (.goto 11, 3) := by decide +kernel
theorem dX1_plans_290 : decode cX1_plans 290 = .ok (.iload 6, 2) := by decide +kernel
theorem dX1_plans_292 : decode cX1_plans 292 = .ok (.istore 4, 2) := by decide +kernel
theorem dX1_plans_294 : decode cX1_plans 294 = .ok (.iload 8, 2) := by decide +kernel
theorem dX1_plans_296 : decode cX1_plans 296 = .ok (.istore 5, 2) := by decide +kernel
theorem dX1_plans_298 : decode cX1_plans 298 = .ok (.iinc 6 1, 3) := by decide +kernel
theorem dX1_plans_301 : decode cX1_plans 301 = .ok (.goto (-93), 3) := by decide +kernel
theorem dX1_plans_304 : decode cX1_plans 304 = .ok (.iconst 0, 1) := by decide +kernel
theorem dX1_plans_305 : decode cX1_plans 305 = .ok (.istore 6, 2) := by decide +kernel
theorem dX1_plans_307 : decode cX1_plans 307 = .ok (.iload 6, 2) := by decide +kernel
theorem dX1_plans_309 : decode cX1_plans 309 = .ok (.iload_n 3, 1) := by decide +kernel
theorem dX1_plans_310 : decode cX1_plans 310 = .ok (.if_icmp .ge 48, 3) := by decide +kernel
theorem dX1_plans_313 : decode cX1_plans 313 = .ok (.iload 4, 2) := by decide +kernel
theorem dX1_plans_315 : decode cX1_plans 315 = .ok (.iload 6, 2) := by decide +kernel
theorem dX1_plans_317 : decode cX1_plans 317 = .ok (.ishr, 1) := by decide +kernel
theorem dX1_plans_318 : decode cX1_plans 318 = .ok (.iconst 1, 1) := by decide +kernel
theorem dX1_plans_319 : decode cX1_plans 319 = .ok (.iand, 1) := by decide +kernel
theorem dX1_plans_320 : decode cX1_plans 320 = .ok (.ifCond .ne 6, 3) := by decide +kernel
theorem dX1_plans_323 : decode cX1_plans 323 = .ok (.goto 29, 3) := by decide +kernel
theorem dX1_plans_326 : decode cX1_plans 326 = .ok (.aload_n 0, 1) := by decide +kernel
theorem dX1_plans_327 : decode cX1_plans 327 = .ok (.getfield 81, 3) := by decide +kernel
theorem dX1_plans_330 : decode cX1_plans 330 = .ok (.aload_n 0, 1) := by decide +kernel
theorem dX1_plans_331 : decode cX1_plans 331 = .ok (.getfield 183, 3) := by decide +kernel
theorem dX1_plans_334 : decode cX1_plans 334 = .ok (.aload_n 0, 1) := by decide +kernel
theorem dX1_plans_335 : decode cX1_plans 335 = .ok (.getfield 84, 3) := by decide +kernel
theorem dX1_plans_338 : decode cX1_plans 338 = .ok (.iload 6, 2) := by decide +kernel
theorem dX1_plans_340 : decode cX1_plans 340 = .ok (.iaload, 1) := by decide +kernel
theorem dX1_plans_341 : decode cX1_plans 341 = .ok (.iastore, 1) := by decide +kernel
theorem dX1_plans_342 : decode cX1_plans 342 = .ok (.aload_n 0, 1) := by decide +kernel
theorem dX1_plans_343 : decode cX1_plans 343 = .ok (.dup, 1) := by decide +kernel
theorem dX1_plans_344 : decode cX1_plans 344 = .ok (.getfield 183, 3) := by decide +kernel
theorem dX1_plans_347 : decode cX1_plans 347 = .ok (.iconst 1, 1) := by decide +kernel
theorem dX1_plans_348 : decode cX1_plans 348 = .ok (.iadd, 1) := by decide +kernel
theorem dX1_plans_349 : decode cX1_plans 349 = .ok (.putfield 183, 3) := by decide +kernel
theorem dX1_plans_352 : decode cX1_plans 352 = .ok (.iinc 6 1, 3) := by decide +kernel
theorem dX1_plans_355 : decode cX1_plans 355 = .ok (.goto (-48), 3) := by decide +kernel
theorem dX1_plans_358 : decode cX1_plans 358 = .ok (.return_, 1) := by decide +kernel
theorem dX1_isTaken_0 : decode cX1_isTaken 0 = .ok (.iconst 0, 1) := by decide +kernel
theorem dX1_isTaken_1 : decode cX1_isTaken 1 = .ok (.istore_n 2, 1) := by decide +kernel
theorem dX1_isTaken_2 : decode cX1_isTaken 2 = .ok (.iload_n 2, 1) := by decide +kernel
theorem dX1_isTaken_3 : decode cX1_isTaken 3 = .ok (.aload_n 0, 1) := by decide +kernel
theorem dX1_isTaken_4 : decode cX1_isTaken 4 = .ok (.getfield 183, 3) := by decide +kernel
theorem dX1_isTaken_7 : decode cX1_isTaken 7 = .ok (.if_icmp .ge 21, 3) := by decide +kernel
theorem dX1_isTaken_10 : decode cX1_isTaken 10 = .ok (.aload_n 0, 1) := by decide +kernel
theorem dX1_isTaken_11 : decode cX1_isTaken 11 = .ok (.getfield 81, 3) := by decide +kernel
theorem dX1_isTaken_14 : decode cX1_isTaken 14 = .ok (.iload_n 2, 1) := by decide +kernel
theorem dX1_isTaken_15 : decode cX1_isTaken 15 = .ok (.iaload, 1) := by decide +kernel
theorem dX1_isTaken_16 : decode cX1_isTaken 16 = .ok (.iload_n 1, 1) := by decide +kernel
theorem dX1_isTaken_17 : decode cX1_isTaken 17 = .ok (.if_icmp .ne 5, 3) := by decide +kernel
theorem dX1_isTaken_20 : decode cX1_isTaken 20 = .ok (.iconst 1, 1) := by decide +kernel
theorem dX1_isTaken_21 : decode cX1_isTaken 21 = .ok (.ireturn, 1) := by decide +kernel
theorem dX1_isTaken_22 : decode cX1_isTaken 22 = .ok (.iinc 2 1, 3) := by decide +kernel
theorem dX1_isTaken_25 : decode cX1_isTaken 25 = .ok (.goto (-23), 3) := by decide +kernel
theorem dX1_isTaken_28 : decode cX1_isTaken 28 = .ok (.iconst 0, 1) := by decide +kernel
theorem dX1_isTaken_29 : decode cX1_isTaken 29 = .ok (.ireturn, 1) := by decide +kernel
theorem dX1_worth_0 : decode cX1_worth 0 = .ok (.iload_n 1, 1) := by decide +kernel
theorem dX1_worth_1 : decode cX1_worth 1 = .ok (.invokestatic 189, 3) := by decide +kernel
theorem dX1_worth_4 : decode cX1_worth 4 = .ok (.ifCond .eq 12, 3) := by decide +kernel
theorem dX1_worth_7 : decode cX1_worth 7 = .ok (.iload_n 2, 1) := by decide +kernel
theorem dX1_worth_8 : decode cX1_worth 8 = .ok (.iconst 0, 1) := by decide +kernel
theorem dX1_worth_9 : decode cX1_worth 9 = .ok (.iconst 2, 1) := by decide +kernel
theorem dX1_worth_10 : decode cX1_worth 10 = .ok (.invokestatic 96, 3) := by decide +kernel
theorem dX1_worth_13 : decode cX1_worth 13 = .ok (.ifCond .ne 5, 3) := by decide +kernel
theorem dX1_worth_16 : decode cX1_worth 16 = .ok (.iconst (-1), 1) := by decide +kernel
theorem dX1_worth_17 : decode cX1_worth 17 = .ok (.ireturn, 1) := by decide +kernel
theorem dX1_worth_18 : decode cX1_worth 18 = .ok (.aload_n 0, 1) := by decide +kernel
theorem dX1_worth_19 : decode cX1_worth 19 = .ok (.iload_n 1, 1) := by decide +kernel
theorem dX1_worth_20 : decode cX1_worth 20 = .ok (.invokevirtual 192, 3) := by decide +kernel
theorem dX1_worth_23 : decode cX1_worth 23 = .ok (.iconst 0, 1) := by decide +kernel
theorem dX1_worth_24 : decode cX1_worth 24 = .ok (.istore_n 3, 1) := by decide +kernel
theorem dX1_worth_25 : decode cX1_worth 25 = .ok (.iconst 0, 1) := by decide +kernel
theorem dX1_worth_26 : decode cX1_worth 26 = .ok (.istore 4, 2) := by decide +kernel
theorem dX1_worth_28 : decode cX1_worth 28 = .ok (.iload 4, 2) := by decide +kernel
theorem dX1_worth_30 : decode cX1_worth 30 = .ok (.aload_n 0, 1) := by decide +kernel
theorem dX1_worth_31 : decode cX1_worth 31 = .ok (.getfield 165, 3) := by decide +kernel
theorem dX1_worth_34 : decode cX1_worth 34 = .ok (.if_icmp .ge 82, 3) := by decide +kernel
theorem dX1_worth_37 : decode cX1_worth 37 = .ok (.aload_n 0, 1) := by decide +kernel
theorem dX1_worth_38 : decode cX1_worth 38 = .ok (.aload_n 0, 1) := by decide +kernel
theorem dX1_worth_39 : decode cX1_worth 39 = .ok (.getfield 78, 3) := by decide +kernel
theorem dX1_worth_42 : decode cX1_worth 42 = .ok (.iload 4, 2) := by decide +kernel
theorem dX1_worth_44 : decode cX1_worth 44 = .ok (.iaload, 1) := by decide +kernel
theorem dX1_worth_45 : decode cX1_worth 45 = .ok (.invokevirtual 186, 3) := by decide +kernel
theorem dX1_worth_48 : decode cX1_worth 48 = .ok (.istore 5, 2) := by decide +kernel
theorem dX1_worth_50 : decode cX1_worth 50 = .ok (.iload_n 3, 1) := by decide +kernel
theorem dX1_worth_51 : decode cX1_worth 51 = .ok (.iload_n 2, 1) := by decide +kernel
theorem dX1_worth_52 : decode cX1_worth 52 = .ok (.iconst 2, 1) := by decide +kernel
theorem dX1_worth_53 : decode cX1_worth 53 = .ok (.if_icmp .ne 26, 3) := by decide +kernel
theorem dX1_worth_56 : decode cX1_worth 56 = .ok (.iload 5, 2) := by decide +kernel
theorem dX1_worth_58 : decode cX1_worth 58 = .ok (.ifCond .eq 17, 3) := by decide +kernel
theorem dX1_worth_61 : decode cX1_worth 61 = .ok (.aload_n 0, 1) := by decide +kernel
theorem dX1_worth_62 : decode cX1_worth 62 = .ok (.aload_n 0, 1) := by decide +kernel
theorem dX1_worth_63 : decode cX1_worth 63 = .ok (.getfield 78, 3) := by decide +kernel
theorem dX1_worth_66 : decode cX1_worth 66 = .ok (.iload 4, 2) := by decide +kernel
theorem dX1_worth_68 : decode cX1_worth 68 = .ok (.iaload, 1) := by decide +kernel
theorem dX1_worth_69 : decode cX1_worth 69 = .ok (.invokevirtual 177, 3) := by decide +kernel
theorem dX1_worth_72 : decode cX1_worth 72 = .ok (.goto 36, 3) := by decide +kernel
theorem dX1_worth_75 : decode cX1_worth 75 = .ok (.iconst 0, 1) := by decide +kernel
theorem dX1_worth_76 : decode cX1_worth 76 = .ok (.goto 32, 3) := by decide +kernel
theorem dX1_worth_79 : decode cX1_worth 79 = .ok (.iload 5, 2) := by decide +kernel
theorem dX1_worth_81 : decode cX1_worth 81 = .ok (.iload_n 2, 1) := by decide +kernel
theorem dX1_worth_82 : decode cX1_worth 82 = .ok (.ifCond .ne 7, 3) := by decide +kernel
theorem dX1_worth_85 : decode cX1_worth 85 = .ok (.iconst 1, 1) := by decide +kernel
theorem dX1_worth_86 : decode cX1_worth 86 = .ok (.goto 4, 3) := by decide +kernel
theorem dX1_worth_89 : decode cX1_worth 89 = .ok (.iconst 0, 1) := by decide +kernel
theorem dX1_worth_90 : decode cX1_worth 90 = .ok (.if_icmp .ne 17, 3) := by decide +kernel
theorem dX1_worth_93 : decode cX1_worth 93 = .ok (.aload_n 0, 1) := by decide +kernel
theorem dX1_worth_94 : decode cX1_worth 94 = .ok (.aload_n 0, 1) := by decide +kernel
theorem dX1_worth_95 : decode cX1_worth 95 = .ok (.getfield 78, 3) := by decide +kernel
theorem dX1_worth_98 : decode cX1_worth 98 = .ok (.iload 4, 2) := by decide +kernel
theorem dX1_worth_100 : decode cX1_worth 100 = .ok (.iaload, 1) := by decide +kernel
theorem dX1_worth_101 : decode cX1_worth 101 = .ok (.invokevirtual 168, 3) := by decide +kernel
theorem dX1_worth_104 : decode cX1_worth 104 = .ok (.goto 4, 3) := by decide +kernel
theorem dX1_worth_107 : decode cX1_worth 107 = .ok (.iconst 0, 1) := by decide +kernel
theorem dX1_worth_108 : decode cX1_worth 108 = .ok (.iadd, 1) := by decide +kernel
theorem dX1_worth_109 : decode cX1_worth 109 = .ok (.istore_n 3, 1) := by decide +kernel
theorem dX1_worth_110 : decode cX1_worth 110 = .ok (.iinc 4 1, 3) := by decide +kernel
theorem dX1_worth_113 : decode cX1_worth 113 = .ok (.goto (-85), 3) := by decide +kernel
theorem dX1_worth_116 : decode cX1_worth 116 = .ok (.iload_n 3, 1) := by decide +kernel
theorem dX1_worth_117 : decode cX1_worth 117 = .ok (.ireturn, 1) := by decide +kernel
theorem dX1_source_0 : decode cX1_source 0 = .ok (.iload_n 1, 1) := by decide +kernel
theorem dX1_source_1 : decode cX1_source 1 = .ok (.iconst 0, 1) := by decide +kernel
theorem dX1_source_2 : decode cX1_source 2 = .ok (.bipush 9, 2) := by decide +kernel
theorem dX1_source_4 : decode cX1_source 4 = .ok (.invokestatic 96, 3) := by decide +kernel
theorem dX1_source_7 : decode cX1_source 7 = .ok (.ifCond .eq 13, 3) := by decide +kernel
theorem dX1_source_10 : decode cX1_source 10 = .ok (.iload_n 2, 1) := by decide +kernel
theorem dX1_source_11 : decode cX1_source 11 = .ok (.iconst 0, 1) := by decide +kernel
theorem dX1_source_12 : decode cX1_source 12 = .ok (.bipush 6, 2) := by decide +kernel
theorem dX1_source_14 : decode cX1_source 14 = .ok (.invokestatic 96, 3) := by decide +kernel
theorem dX1_source_17 : decode cX1_source 17 = .ok (.ifCond .ne 5, 3) := by decide +kernel
theorem dX1_source_20 : decode cX1_source 20 = .ok (.iconst (-1), 1) := by decide +kernel
theorem dX1_source_21 : decode cX1_source 21 = .ok (.ireturn, 1) := by decide +kernel
theorem dX1_source_22 : decode cX1_source 22 = .ok (.iconst 0, 1) := by decide +kernel
theorem dX1_source_23 : decode cX1_source 23 = .ok (.istore_n 3, 1) := by decide +kernel
theorem dX1_source_24 : decode cX1_source 24 = .ok (.iconst 0, 1) := by decide +kernel
theorem dX1_source_25 : decode cX1_source 25 = .ok (.istore 4, 2) := by decide +kernel
theorem dX1_source_27 : decode cX1_source 27 = .ok (.iload 4, 2) := by decide +kernel
theorem dX1_source_29 : decode cX1_source 29 = .ok (.aload_n 0, 1) := by decide +kernel
theorem dX1_source_30 : decode cX1_source 30 = .ok (.getfield 93, 3) := by decide +kernel
theorem dX1_source_33 : decode cX1_source 33 = .ok (.if_icmp .ge 164, 3) := by decide +kernel
theorem dX1_source_36 : decode cX1_source 36 = .ok (.aload_n 0, 1) := by decide +kernel
theorem dX1_source_37 : decode cX1_source 37 = .ok (.getfield 23, 3) := by decide +kernel
theorem dX1_source_40 : decode cX1_source 40 = .ok (.iload 4, 2) := by decide +kernel
theorem dX1_source_42 : decode cX1_source 42 = .ok (.iaload, 1) := by decide +kernel
theorem dX1_source_43 : decode cX1_source 43 = .ok (.iload_n 1, 1) := by decide +kernel
theorem dX1_source_44 : decode cX1_source 44 = .ok (.if_icmp .eq 6, 3) := by decide +kernel
theorem dX1_source_47 : decode cX1_source 47 = .ok (.goto 144, 3) := by decide +kernel
theorem dX1_source_50 : decode cX1_source 50 = .ok (.aload_n 0, 1) := by decide +kernel
theorem dX1_source_51 : decode cX1_source 51 = .ok (.getfield 47, 3) := by decide +kernel
theorem dX1_source_54 : decode cX1_source 54 = .ok (.iload 4, 2) := by decide +kernel
theorem dX1_source_56 : decode cX1_source 56 = .ok (.baload, 1) := by decide +kernel
theorem dX1_source_57 : decode cX1_source 57 = .ok (.ifCond .ne 17, 3) := by decide +kernel
theorem dX1_source_60 : decode cX1_source 60 = .ok (.aload_n 0, 1) := by decide +kernel
theorem dX1_source_61 : decode cX1_source 61 = .ok (.getfield 51, 3) := by decide +kernel
theorem dX1_source_64 : decode cX1_source 64 = .ok (.iload 4, 2) := by decide +kernel
theorem dX1_source_66 : decode cX1_source 66 = .ok (.baload, 1) := by decide +kernel
theorem dX1_source_67 : decode cX1_source 67 = .ok (.ifCond .ne 7, 3) := by decide +kernel
theorem dX1_source_70 : decode cX1_source 70 = .ok (.iconst 1, 1) := by decide +kernel
theorem dX1_source_71 : decode cX1_source 71 = .ok (.goto 4, 3) := by decide +kernel
theorem dX1_source_74 : decode cX1_source 74 = .ok (.iconst 0, 1) := by decide +kernel
theorem dX1_source_75 : decode cX1_source 75 = .ok (.istore 5, 2) := by decide +kernel
theorem dX1_source_77 : decode cX1_source 77 = .ok (.iload_n 3, 1) := by decide +kernel
theorem dX1_source_78 : decode cX1_source 78 = .ok (.iload_n 2, 1) := by decide +kernel
theorem dX1_source_79 : decode cX1_source 79 = .ok (.iconst 1, 1) := by decide +kernel
theorem dX1_source_80 : decode cX1_source 80 = .ok (.if_icmp .ne 13, 3) := by decide +kernel
theorem dX1_source_83 : decode cX1_source 83 = .ok (.aload_n 0, 1) := by decide +kernel
theorem dX1_source_84 : decode cX1_source 84 = .ok (.getfield 35, 3) := by decide +kernel
theorem dX1_source_87 : decode cX1_source 87 = .ok (.iload 4, 2) := by decide +kernel
theorem dX1_source_89 : decode cX1_source 89 = .ok (.iaload, 1) := by decide +kernel
theorem dX1_source_90 : decode cX1_source 90 = .ok (.goto 99, 3) := by decide +kernel
theorem dX1_source_93 : decode cX1_source 93 = .ok (.iload_n 2, 1) := by decide +kernel
theorem dX1_source_94 : decode cX1_source 94 = .ok (.ifCond .eq 87, 3) := by decide +kernel
theorem dX1_source_97 : decode cX1_source 97 = .ok (.iload_n 2, 1) := by decide +kernel
theorem dX1_source_98 : decode cX1_source 98 = .ok (.iconst 2, 1) := by decide +kernel
theorem dX1_source_99 : decode cX1_source 99 = .ok (.if_icmp .ne 13, 3) := by decide +kernel
theorem dX1_source_102 : decode cX1_source 102 = .ok (.aload_n 0, 1) := by decide +kernel
theorem dX1_source_103 : decode cX1_source 103 = .ok (.getfield 47, 3) := by decide +kernel
theorem dX1_source_106 : decode cX1_source 106 = .ok (.iload 4, 2) := by decide +kernel
theorem dX1_source_108 : decode cX1_source 108 = .ok (.baload, 1) := by decide +kernel
theorem dX1_source_109 : decode cX1_source 109 = .ok (.ifCond .ne 72, 3) := by decide +kernel
theorem dX1_source_112 : decode cX1_source 112 = .ok (.iload_n 2, 1) := by decide +kernel
theorem dX1_source_113 : decode cX1_source 113 = .ok (.iconst 3, 1) := by decide +kernel
theorem dX1_source_114 : decode cX1_source 114 = .ok (.if_icmp .ne 13, 3) := by decide +kernel
theorem dX1_source_117 : decode cX1_source 117 = .ok (.aload_n 0, 1) := by decide +kernel
theorem dX1_source_118 : decode cX1_source 118 = .ok (.getfield 51, 3) := by decide +kernel
theorem dX1_source_121 : decode cX1_source 121 = .ok (.iload 4, 2) := by decide +kernel
theorem dX1_source_123 : decode cX1_source 123 = .ok (.baload, 1) := by decide +kernel
theorem dX1_source_124 : decode cX1_source 124 = .ok (.ifCond .ne 57, 3) := by decide +kernel
theorem dX1_source_127 : decode cX1_source 127 = .ok (.iload_n 2, 1) := by decide +kernel
theorem dX1_source_128 : decode cX1_source 128 = .ok (.iconst 4, 1) := by decide +kernel
theorem dX1_source_129 : decode cX1_source 129 = .ok (.if_icmp .ne 14, 3) := by decide +kernel
theorem dX1_source_132 : decode cX1_source 132 = .ok (.aload_n 0, 1) := by decide +kernel
theorem dX1_source_133 : decode cX1_source 133 = .ok (.getfield 38, 3) := by decide +kernel
theorem dX1_source_136 : decode cX1_source 136 = .ok (.iload 4, 2) := by decide +kernel
theorem dX1_source_138 : decode cX1_source 138 = .ok (.iaload, 1) := by decide +kernel
theorem dX1_source_139 : decode cX1_source 139 = .ok (.iconst 1, 1) := by decide +kernel
theorem dX1_source_140 : decode cX1_source 140 = .ok (.if_icmp .eq 41, 3) := by decide +kernel
theorem dX1_source_143 : decode cX1_source 143 = .ok (.iload_n 2, 1) := by decide +kernel
theorem dX1_source_144 : decode cX1_source 144 = .ok (.iconst 5, 1) := by decide +kernel
theorem dX1_source_145 : decode cX1_source 145 = .ok (.if_icmp .ne 14, 3) := by decide +kernel
theorem dX1_source_148 : decode cX1_source 148 = .ok (.aload_n 0, 1) := by decide +kernel
theorem dX1_source_149 : decode cX1_source 149 = .ok (.getfield 38, 3) := by decide +kernel
theorem dX1_source_152 : decode cX1_source 152 = .ok (.iload 4, 2) := by decide +kernel
theorem dX1_source_154 : decode cX1_source 154 = .ok (.iaload, 1) := by decide +kernel
theorem dX1_source_155 : decode cX1_source 155 = .ok (.iconst 2, 1) := by decide +kernel
theorem dX1_source_156 : decode cX1_source 156 = .ok (.if_icmp .eq 25, 3) := by decide +kernel
theorem dX1_source_159 : decode cX1_source 159 = .ok (.iload_n 2, 1) := by decide +kernel
theorem dX1_source_160 : decode cX1_source 160 = .ok (.bipush 6, 2) := by decide +kernel
theorem dX1_source_162 : decode cX1_source 162 = .ok (.if_icmp .ne 23, 3) := by decide +kernel
theorem dX1_source_165 : decode cX1_source 165 = .ok (.aload_n 0, 1) := by decide +kernel
theorem dX1_source_166 : decode cX1_source 166 = .ok (.getfield 38, 3) := by decide +kernel
theorem dX1_source_169 : decode cX1_source 169 = .ok (.iload 4, 2) := by decide +kernel
theorem dX1_source_171 : decode cX1_source 171 = .ok (.iaload, 1) := by decide +kernel
theorem dX1_source_172 : decode cX1_source 172 = .ok (.iconst 1, 1) := by decide +kernel
theorem dX1_source_173 : decode cX1_source 173 = .ok (.if_icmp .ne 12, 3) := by decide +kernel
theorem dX1_source_176 : decode cX1_source 176 = .ok (.iload 5, 2) := by decide +kernel
theorem dX1_source_178 : decode cX1_source 178 = .ok (.ifCond .ne 7, 3) := by decide +kernel
theorem dX1_source_181 : decode cX1_source 181 = .ok (.iconst 1, 1) := by decide +kernel
theorem dX1_source_182 : decode cX1_source 182 = .ok (.goto 4, 3) := by decide +kernel
theorem dX1_source_185 : decode cX1_source 185 = .ok (.iconst 0, 1) := by decide +kernel
theorem dX1_source_186 : decode cX1_source 186 = .ok (.invokestatic 107, 3) := by decide +kernel
theorem dX1_source_189 : decode cX1_source 189 = .ok (.iadd, 1) := by decide +kernel
theorem dX1_source_190 : decode cX1_source 190 = .ok (.istore_n 3, 1) := by decide +kernel
theorem dX1_source_191 : decode cX1_source 191 = .ok (.iinc 4 1, 3) := by decide +kernel
theorem dX1_source_194 : decode cX1_source 194 = .ok (.goto (-167), 3) := by decide +kernel
theorem dX1_source_197 : decode cX1_source 197 = .ok (.iload_n 3, 1) := by decide +kernel
theorem dX1_source_198 : decode cX1_source 198 = .ok (.ireturn, 1) := by decide +kernel
theorem dX1_count_0 : decode cX1_count 0 = .ok (.iload_n 1, 1) := by decide +kernel
theorem dX1_count_1 : decode cX1_count 1 = .ok (.tableswitch 108 0 5 #[39, 44, 49, 89, 98, 103], 39) := by decide +kernel
theorem dX1_count_40 : decode cX1_count 40 = .ok (.aload_n 0, 1) := by decide +kernel
theorem dX1_count_41 : decode cX1_count 41 = .ok (.getfield 100, 3) := by decide +kernel
theorem dX1_count_44 : decode cX1_count 44 = .ok (.ireturn, 1) := by decide +kernel
theorem dX1_count_45 : decode cX1_count 45 = .ok (.aload_n 0, 1) := by decide +kernel
theorem dX1_count_46 : decode cX1_count 46 = .ok (.getfield 93, 3) := by decide +kernel
theorem dX1_count_49 : decode cX1_count 49 = .ok (.ireturn, 1) := by decide +kernel
theorem dX1_count_50 : decode cX1_count 50 = .ok (.iconst 0, 1) := by decide +kernel
theorem dX1_count_51 : decode cX1_count 51 = .ok (.istore_n 2, 1) := by decide +kernel
theorem dX1_count_52 : decode cX1_count 52 = .ok (.iconst 0, 1) := by decide +kernel
theorem dX1_count_53 : decode cX1_count 53 = .ok (.istore_n 3, 1) := by decide +kernel
theorem dX1_count_54 : decode cX1_count 54 = .ok (.iload_n 3, 1) := by decide +kernel
theorem dX1_count_55 : decode cX1_count 55 = .ok (.aload_n 0, 1) := by decide +kernel
theorem dX1_count_56 : decode cX1_count 56 = .ok (.getfield 93, 3) := by decide +kernel
theorem dX1_count_59 : decode cX1_count 59 = .ok (.if_icmp .ge 29, 3) := by decide +kernel
theorem dX1_count_62 : decode cX1_count 62 = .ok (.iload_n 2, 1) := by decide +kernel
theorem dX1_count_63 : decode cX1_count 63 = .ok (.aload_n 0, 1) := by decide +kernel
theorem dX1_count_64 : decode cX1_count 64 = .ok (.getfield 38, 3) := by decide +kernel
theorem dX1_count_67 : decode cX1_count 67 = .ok (.iload_n 3, 1) := by decide +kernel
theorem dX1_count_68 : decode cX1_count 68 = .ok (.iaload, 1) := by decide +kernel
theorem dX1_count_69 : decode cX1_count 69 = .ok (.ifCond .ne 7, 3) := by decide +kernel
theorem dX1_count_72 : decode cX1_count 72 = .ok (.iconst 1, 1) := by decide +kernel
theorem dX1_count_73 : decode cX1_count 73 = .ok (.goto 4, 3) := by decide +kernel
theorem dX1_count_76 : decode cX1_count 76 = .ok (.iconst 0, 1) := by decide +kernel
theorem dX1_count_77 : decode cX1_count 77 = .ok (.invokestatic 107, 3) := by decide +kernel
theorem dX1_count_80 : decode cX1_count 80 = .ok (.iadd, 1) := by decide +kernel
theorem dX1_count_81 : decode cX1_count 81 = .ok (.istore_n 2, 1) := by decide +kernel
theorem dX1_count_82 : decode cX1_count 82 = .ok (.iinc 3 1, 3) := by decide +kernel
theorem dX1_count_85 : decode cX1_count 85 = .ok (.goto (-31), 3) := by decide +kernel
theorem dX1_count_88 : decode cX1_count 88 = .ok (.iload_n 2, 1) := by decide +kernel
theorem dX1_count_89 : decode cX1_count 89 = .ok (.ireturn, 1) := by decide +kernel
theorem dX1_count_90 : decode cX1_count 90 = .ok (.aload_n 0, 1) := by decide +kernel
theorem dX1_count_91 : decode cX1_count 91 = .ok (.invokevirtual 174, 3) := by decide +kernel
theorem dX1_count_94 : decode cX1_count 94 = .ok (.aload_n 0, 1) := by decide +kernel
theorem dX1_count_95 : decode cX1_count 95 = .ok (.getfield 165, 3) := by decide +kernel
theorem dX1_count_98 : decode cX1_count 98 = .ok (.ireturn, 1) := by decide +kernel
theorem dX1_count_99 : decode cX1_count 99 = .ok (.aload_n 0, 1) := by decide +kernel
theorem dX1_count_100 : decode cX1_count 100 = .ok (.getfield 111, 3) := by decide +kernel
theorem dX1_count_103 : decode cX1_count 103 = .ok (.ireturn, 1) := by decide +kernel
theorem dX1_count_104 : decode cX1_count 104 = .ok (.aload_n 0, 1) := by decide +kernel
theorem dX1_count_105 : decode cX1_count 105 = .ok (.getfield 124, 3) := by decide +kernel
theorem dX1_count_108 : decode cX1_count 108 = .ok (.ireturn, 1) := by decide +kernel
theorem dX1_count_109 : decode cX1_count 109 = .ok (.iconst (-1), 1) := by decide +kernel
theorem dX1_count_110 : decode cX1_count 110 = .ok (.ireturn, 1) := by decide +kernel
