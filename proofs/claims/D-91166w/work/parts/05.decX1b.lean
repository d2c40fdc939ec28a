set_option maxRecDepth 100000
theorem dX1_node_22 : decode cX1_node 22 = .ok (.aload_n 0, 1) := by decide +kernel
theorem dX1_node_23 : decode cX1_node 23 = .ok (.iload_n 1, 1) := by decide +kernel
theorem dX1_node_24 : decode cX1_node 24 = .ok (.iload_n 2, 1) := by decide +kernel
theorem dX1_node_25 : decode cX1_node 25 = .ok (.invokevirtual 140, 3) := by decide +kernel
theorem dX1_node_28 : decode cX1_node 28 = .ok (.iload_n 3, 1) := by decide +kernel
theorem dX1_node_29 : decode cX1_node 29 = .ok (.ifCond .ne 10, 3) := by decide +kernel
theorem dX1_node_32 : decode cX1_node 32 = .ok (.aload_n 0, 1) := by decide +kernel
theorem dX1_node_33 : decode cX1_node 33 = .ok (.getfield 131, 3) := by decide +kernel
theorem dX1_node_36 : decode cX1_node 36 = .ok (.goto 28, 3) := by decide +kernel
theorem dX1_node_39 : decode cX1_node 39 = .ok (.iload_n 3, 1) := by decide +kernel
theorem dX1_node_40 : decode cX1_node 40 = .ok (.iconst 1, 1) := by decide +kernel
theorem dX1_node_41 : decode cX1_node 41 = .ok (.if_icmp .ne 10, 3) := by decide +kernel
theorem dX1_node_44 : decode cX1_node 44 = .ok (.aload_n 0, 1) := by decide +kernel
theorem dX1_node_45 : decode cX1_node 45 = .ok (.getfield 134, 3) := by decide +kernel
theorem dX1_node_48 : decode cX1_node 48 = .ok (.goto 16, 3) := by decide +kernel
theorem dX1_node_51 : decode cX1_node 51 = .ok (.iload_n 3, 1) := by decide +kernel
theorem dX1_node_52 : decode cX1_node 52 = .ok (.iconst 2, 1) := by decide +kernel
theorem dX1_node_53 : decode cX1_node 53 = .ok (.if_icmp .ne 10, 3) := by decide +kernel
theorem dX1_node_56 : decode cX1_node 56 = .ok (.aload_n 0, 1) := by decide +kernel
theorem dX1_node_57 : decode cX1_node 57 = .ok (.getfield 137, 3) := by decide +kernel
theorem dX1_node_60 : decode cX1_node 60 = .ok (.goto 4, 3) := by decide +kernel
theorem dX1_node_63 : decode cX1_node 63 = .ok (.iconst (-1), 1) := by decide +kernel
theorem dX1_node_64 : decode cX1_node 64 = .ok (.ireturn, 1) := by decide +kernel
theorem dX1_counts_0 : decode cX1_counts 0 = .ok (.aload_n 0, 1) := by decide +kernel
theorem dX1_counts_1 : decode cX1_counts 1 = .ok (.iconst 0, 1) := by decide +kernel
theorem dX1_counts_2 : decode cX1_counts 2 = .ok (.putfield 131, 3) := by decide +kernel
theorem dX1_counts_5 : decode cX1_counts 5 = .ok (.aload_n 0, 1) := by decide +kernel
theorem dX1_counts_6 : decode cX1_counts 6 = .ok (.iconst 0, 1) := by decide +kernel
theorem dX1_counts_7 : decode cX1_counts 7 = .ok (.putfield 134, 3) := by decide +kernel
theorem dX1_counts_10 : decode cX1_counts 10 = .ok (.aload_n 0, 1) := by decide +kernel
theorem dX1_counts_11 : decode cX1_counts 11 = .ok (.iconst 0, 1) := by decide +kernel
theorem dX1_counts_12 : decode cX1_counts 12 = .ok (.putfield 137, 3) := by decide +kernel
theorem dX1_counts_15 : decode cX1_counts 15 = .ok (.iconst 3, 1) := by decide +kernel
theorem dX1_counts_16 : decode cX1_counts 16 = .ok (.iconst 4, 1) := by decide +kernel
theorem dX1_counts_17 : decode cX1_counts 17 = .ok (.iload_n 1, 1) := by decide +kernel
theorem dX1_counts_18 : decode cX1_counts 18 = .ok (.isub, 1) := by decide +kernel
theorem dX1_counts_19 : decode cX1_counts 19 = .ok (.imul, 1) := by decide +kernel
theorem dX1_counts_20 : decode cX1_counts 20 = .ok (.istore_n 3, 1) := by decide +kernel
theorem dX1_counts_21 : decode cX1_counts 21 = .ok (.iconst 0, 1) := by decide +kernel
theorem dX1_counts_22 : decode cX1_counts 22 = .ok (.istore 4, 2) := by decide +kernel
theorem dX1_counts_24 : decode cX1_counts 24 = .ok (.iload 4, 2) := by decide +kernel
theorem dX1_counts_26 : decode cX1_counts 26 = .ok (.aload_n 0, 1) := by decide +kernel
theorem dX1_counts_27 : decode cX1_counts 27 = .ok (.getfield 93, 3) := by decide +kernel
theorem dX1_counts_30 : decode cX1_counts 30 = .ok (.if_icmp .ge 109, 3) := by decide +kernel
theorem dX1_counts_33 : decode cX1_counts 33 = .ok (.aload_n 0, 1) := by decide +kernel
theorem dX1_counts_34 : decode cX1_counts 34 = .ok (.getfield 29, 3) := by decide +kernel
theorem dX1_counts_37 : decode cX1_counts 37 = .ok (.iload 4, 2) := by decide +kernel
theorem dX1_counts_39 : decode cX1_counts 39 = .ok (.iaload, 1) := by decide +kernel
theorem dX1_counts_40 : decode cX1_counts 40 = .ok (.iload_n 3, 1) := by decide +kernel
theorem dX1_counts_41 : decode cX1_counts 41 = .ok (.ishr, 1) := by decide +kernel
theorem dX1_counts_42 : decode cX1_counts 42 = .ok (.iload_n 2, 1) := by decide +kernel
theorem dX1_counts_43 : decode cX1_counts 43 = .ok (.iload_n 3, 1) := by decide +kernel
theorem dX1_counts_44 : decode cX1_counts 44 = .ok (.ishr, 1) := by decide +kernel
theorem dX1_counts_45 : decode cX1_counts 45 = .ok (.if_icmp .eq 6, 3) := by decide +kernel
theorem dX1_counts_48 : decode cX1_counts 48 = .ok (.goto 85, 3) := by decide +kernel
theorem dX1_counts_51 : decode cX1_counts 51 = .ok (.aload_n 0, 1) := by decide +kernel
theorem dX1_counts_52 : decode cX1_counts 52 = .ok (.dup, 1) := by decide +kernel
theorem dX1_counts_53 : decode cX1_counts 53 = .ok (.getfield 131, 3) := by decide +kernel
theorem dX1_counts_56 : decode cX1_counts 56 = .ok (.aload_n 0, 1) := by decide +kernel
theorem dX1_counts_57 : decode cX1_counts 57 = .ok (.getfield 38, 3) := by decide +kernel
theorem dX1_counts_60 : decode cX1_counts 60 = .ok (.iload 4, 2) := by decide +kernel
theorem dX1_counts_62 : decode cX1_counts 62 = .ok (.iaload, 1) := by decide +kernel
theorem dX1_counts_63 : decode cX1_counts 63 = .ok (.iconst 1, 1) := by decide +kernel
theorem dX1_counts_64 : decode cX1_counts 64 = .ok (.if_icmp .ne 7, 3) := by decide +kernel
theorem dX1_counts_67 : decode cX1_counts 67 = .ok (.iconst 1, 1) := by decide +kernel
theorem dX1_counts_68 : decode cX1_counts 68 = .ok (.goto 4, 3) := by decide +kernel
theorem dX1_counts_71 : decode cX1_counts 71 = .ok (.iconst 0, 1) := by decide +kernel
theorem dX1_counts_72 : decode cX1_counts 72 = .ok (.invokestatic 107, 3) := by decide +kernel
theorem dX1_counts_75 : decode cX1_counts 75 = .ok (.iadd, 1) := by decide +kernel
theorem dX1_counts_76 : decode cX1_counts 76 = .ok (.putfield 131, 3) := by decide +kernel
theorem dX1_counts_79 : decode cX1_counts 79 = .ok (.aload_n 0, 1) := by decide +kernel
theorem dX1_counts_80 : decode cX1_counts 80 = .ok (.dup, 1) := by decide +kernel
theorem dX1_counts_81 : decode cX1_counts 81 = .ok (.getfield 134, 3) := by decide +kernel
theorem dX1_counts_84 : decode cX1_counts 84 = .ok (.aload_n 0, 1) := by decide +kernel
theorem dX1_counts_85 : decode cX1_counts 85 = .ok (.getfield 38, 3) := by decide +kernel
theorem dX1_counts_88 : decode cX1_counts 88 = .ok (.iload 4, 2) := by decide +kernel
theorem dX1_counts_90 : decode cX1_counts 90 = .ok (.iaload, 1) := by decide +kernel
theorem dX1_counts_91 : decode cX1_counts 91 = .ok (.ifCond .eq 7, 3) := by decide +kernel
theorem dX1_counts_94 : decode cX1_counts 94 = .ok (.iconst 1, 1) := by decide +kernel
theorem dX1_counts_95 : decode cX1_counts 95 = .ok (.goto 4, 3) := by decide +kernel
theorem dX1_counts_98 : decode cX1_counts 98 = .ok (.iconst 0, 1) := by decide +kernel
theorem dX1_counts_99 : decode cX1_counts 99 = .ok (.invokestatic 107, 3) := by decide +kernel
theorem dX1_counts_102 : decode cX1_counts 102 = .ok (.iadd, 1) := by decide +kernel
theorem dX1_counts_103 : decode cX1_counts 103 = .ok (.putfield 134, 3) := by decide +kernel
theorem dX1_counts_106 : decode cX1_counts 106 = .ok (.aload_n 0, 1) := by decide +kernel
theorem dX1_counts_107 : decode cX1_counts 107 = .ok (.dup, 1) := by decide +kernel
theorem dX1_counts_108 : decode cX1_counts 108 = .ok (.getfield 137, 3) := by decide +kernel
theorem dX1_counts_111 : decode cX1_counts 111 = .ok (.aload_n 0, 1) := by decide +kernel
theorem dX1_counts_112 : decode cX1_counts 112 = .ok (.getfield 38, 3) := by decide +kernel
theorem dX1_counts_115 : decode cX1_counts 115 = .ok (.iload 4, 2) := by decide +kernel
theorem dX1_counts_117 : decode cX1_counts 117 = .ok (.iaload, 1) := by decide +kernel
theorem dX1_counts_118 : decode cX1_counts 118 = .ok (.ifCond .ne 7, 3) := by decide +kernel
theorem dX1_counts_121 : decode cX1_counts 121 = .ok (.iconst 1, 1) := by decide +kernel
theorem dX1_counts_122 : decode cX1_counts 122 = .ok (.goto 4, 3) := by decide +kernel
theorem dX1_counts_125 : decode cX1_counts 125 = .ok (.iconst 0, 1) := by decide +kernel
theorem dX1_counts_126 : decode cX1_counts 126 = .ok (.invokestatic 107, 3) := by decide +kernel
theorem dX1_counts_129 : decode cX1_counts 129 = .ok (.iadd, 1) := by decide +kernel
theorem dX1_counts_130 : decode cX1_counts 130 = .ok (.putfield 137, 3) := by decide +kernel
theorem dX1_counts_133 : decode cX1_counts 133 = .ok (.iinc 4 1, 3) := by decide +kernel
theorem dX1_counts_136 : decode cX1_counts 136 = .ok (.goto (-112), 3) := by decide +kernel
theorem dX1_counts_139 : decode cX1_counts 139 = .ok (.return_, 1) := by decide +kernel
theorem dX1_odds_0 : decode cX1_odds 0 = .ok (.aload_n 0, 1) := by decide +kernel
theorem dX1_odds_1 : decode cX1_odds 1 = .ok (.iload_n 1, 1) := by decide +kernel
theorem dX1_odds_2 : decode cX1_odds 2 = .ok (.invokevirtual 117, 3) := by decide +kernel
theorem dX1_odds_5 : decode cX1_odds 5 = .ok (.ifCond .eq 12, 3) := by decide +kernel
theorem dX1_odds_8 : decode cX1_odds 8 = .ok (.iload_n 2, 1) := by decide +kernel
theorem dX1_odds_9 : decode cX1_odds 9 = .ok (.iconst 0, 1) := by decide +kernel
theorem dX1_odds_10 : decode cX1_odds 10 = .ok (.iconst 5, 1) := by decide +kernel
theorem dX1_odds_11 : decode cX1_odds 11 = .ok (.invokestatic 96, 3) := by decide +kernel
theorem dX1_odds_14 : decode cX1_odds 14 = .ok (.ifCond .ne 5, 3) := by decide +kernel
theorem dX1_odds_17 : decode cX1_odds 17 = .ok (.iconst (-1), 1) := by decide +kernel
theorem dX1_odds_18 : decode cX1_odds 18 = .ok (.ireturn, 1) := by decide +kernel
theorem dX1_odds_19 : decode cX1_odds 19 = .ok (.aload_n 0, 1) := by decide +kernel
theorem dX1_odds_20 : decode cX1_odds 20 = .ok (.iload_n 1, 1) := by decide +kernel
theorem dX1_odds_21 : decode cX1_odds 21 = .ok (.invokevirtual 144, 3) := by decide +kernel
theorem dX1_odds_24 : decode cX1_odds 24 = .ok (.pop, 1) := by decide +kernel
theorem dX1_odds_25 : decode cX1_odds 25 = .ok (.iload_n 2, 1) := by decide +kernel
theorem dX1_odds_26 : decode cX1_odds 26 = .ok (.iconst 4, 1) := by decide +kernel
theorem dX1_odds_27 : decode cX1_odds 27 = .ok (.if_icmp .ge 10, 3) := by decide +kernel
theorem dX1_odds_30 : decode cX1_odds 30 = .ok (.aload_n 0, 1) := by decide +kernel
theorem dX1_odds_31 : decode cX1_odds 31 = .ok (.getfield 131, 3) := by decide +kernel
theorem dX1_odds_34 : decode cX1_odds 34 = .ok (.goto 12, 3) := by decide +kernel
theorem dX1_odds_37 : decode cX1_odds 37 = .ok (.aload_n 0, 1) := by decide +kernel
theorem dX1_odds_38 : decode cX1_odds 38 = .ok (.getfield 131, 3) := by decide +kernel
theorem dX1_odds_41 : decode cX1_odds 41 = .ok (.aload_n 0, 1) := by decide +kernel
theorem dX1_odds_42 : decode cX1_odds 42 = .ok (.getfield 137, 3) := by decide +kernel
theorem dX1_odds_45 : decode cX1_odds 45 = .ok (.iadd, 1) := by decide +kernel
theorem dX1_odds_46 : decode cX1_odds 46 = .ok (.istore_n 3, 1) := by decide +kernel
theorem dX1_odds_47 : decode cX1_odds 47 = .ok (.iload_n 2, 1) := by decide +kernel
theorem dX1_odds_48 : decode cX1_odds 48 = .ok (.iconst 2, 1) := by decide +kernel
theorem dX1_odds_49 : decode cX1_odds 49 = .ok (.if_icmp .ge 10, 3) := by decide +kernel
theorem dX1_odds_52 : decode cX1_odds 52 = .ok (.aload_n 0, 1) := by decide +kernel
theorem dX1_odds_53 : decode cX1_odds 53 = .ok (.getfield 134, 3) := by decide +kernel
theorem dX1_odds_56 : decode cX1_odds 56 = .ok (.goto 12, 3) := by decide +kernel
theorem dX1_odds_59 : decode cX1_odds 59 = .ok (.aload_n 0, 1) := by decide +kernel
theorem dX1_odds_60 : decode cX1_odds 60 = .ok (.getfield 134, 3) := by decide +kernel
theorem dX1_odds_63 : decode cX1_odds 63 = .ok (.aload_n 0, 1) := by decide +kernel
theorem dX1_odds_64 : decode cX1_odds 64 = .ok (.getfield 137, 3) := by decide +kernel
theorem dX1_odds_67 : decode cX1_odds 67 = .ok (.iadd, 1) := by decide +kernel
theorem dX1_odds_68 : decode cX1_odds 68 = .ok (.istore 4, 2) := by decide +kernel
theorem dX1_odds_70 : decode cX1_odds 70 = .ok (.iload_n 2, 1) := by decide +kernel
theorem dX1_odds_71 : decode cX1_odds 71 = .ok (.iconst 2, 1) := by decide +kernel
theorem dX1_odds_72 : decode cX1_odds 72 = .ok (.if_icmp .ge 15, 3) := by decide +kernel
theorem dX1_odds_75 : decode cX1_odds 75 = .ok (.aload_n 0, 1) := by decide +kernel
theorem dX1_odds_76 : decode cX1_odds 76 = .ok (.getfield 134, 3) := by decide +kernel
theorem dX1_odds_79 : decode cX1_odds 79 = .ok (.ifCond .ne 8, 3) := by decide +kernel
theorem dX1_odds_82 : decode cX1_odds 82 = .ok (.iconst 1, 1) := by decide +kernel
theorem dX1_odds_83 : decode cX1_odds 83 = .ok (.istore_n 3, 1) := by decide +kernel
theorem dX1_odds_84 : decode cX1_odds 84 = .ok (.iconst 2, 1) := by decide +kernel
theorem dX1_odds_85 : decode cX1_odds 85 = .ok (.istore 4, 2) := by decide +kernel
theorem dX1_odds_87 : decode cX1_odds 87 = .ok (.iload_n 3, 1) := by decide +kernel
theorem dX1_odds_88 : decode cX1_odds 88 = .ok (.istore 5, 2) := by decide +kernel
theorem dX1_odds_90 : decode cX1_odds 90 = .ok (.iload 4, 2) := by decide +kernel
theorem dX1_odds_92 : decode cX1_odds 92 = .ok (.istore 6, 2) := by decide +kernel
theorem dX1_odds_94 : decode cX1_odds 94 = .ok (.iload 6, 2) := by decide +kernel
theorem dX1_odds_96 : decode cX1_odds 96 = .ok (.ifCond .le 21, 3) := by decide +kernel
theorem dX1_odds_99 : decode cX1_odds 99 = .ok (.iload 5, 2) := by decide +kernel
theorem dX1_odds_101 : decode cX1_odds 101 = .ok (.iload 6, 2) := by decide +kernel
theorem dX1_odds_103 : decode cX1_odds 103 = .ok (.irem, 1) := by decide +kernel
theorem dX1_odds_104 : decode cX1_odds 104 = .ok (.istore 7, 2) := by decide +kernel
theorem dX1_odds_106 : decode cX1_odds 106 = .ok (.iload 6, 2) := by decide +kernel
theorem dX1_odds_108 : decode cX1_odds 108 = .ok (.istore 5, 2) := by decide +kernel
theorem dX1_odds_110 : decode cX1_odds 110 = .ok (.iload 7, 2) := by decide +kernel
theorem dX1_odds_112 : decode cX1_odds 112 = .ok (.istore 6, 2) := by decide +kernel
theorem dX1_odds_114 : decode cX1_odds 114 = .ok (.goto (-20), 3) := by decide +kernel
theorem dX1_odds_117 : decode cX1_odds 117 = .ok (.iload_n 2, 1) := by decide +kernel
theorem dX1_odds_118 : decode cX1_odds 118 = .ok (.iconst 2, 1) := by decide +kernel
theorem dX1_odds_119 : decode cX1_odds 119 = .ok (.irem, 1) := by decide +kernel
theorem dX1_odds_120 : decode cX1_odds 120 = .ok (.ifCond .ne 10, 3) := by decide +kernel
theorem dX1_odds_123 : decode cX1_odds 123 = .ok (.iload_n 3, 1) := by decide +kernel
theorem dX1_odds_124 : decode cX1_odds 124 = .ok (.iload 5, 2) := by decide +kernel
theorem dX1_odds_126 : decode cX1_odds 126 = .ok (.idiv, 1) := by decide +kernel
theorem dX1_odds_127 : decode cX1_odds 127 = .ok (.goto 8, 3) := by decide +kernel
theorem dX1_odds_130 : decode cX1_odds 130 = .ok (.iload 4, 2) := by decide +kernel
theorem dX1_odds_132 : decode cX1_odds 132 = .ok (.iload 5, 2) := by decide +kernel
theorem dX1_odds_134 : decode cX1_odds 134 = .ok (.idiv, 1) := by decide +kernel
theorem dX1_odds_135 : decode cX1_odds 135 = .ok (.ireturn, 1) := by decide +kernel
theorem dX1_depth_0 : decode cX1_depth 0 = .ok (.iconst 4, 1) := by decide +kernel
theorem dX1_depth_1 : decode cX1_depth 1 = .ok (.istore_n 2, 1) := by decide +kernel
theorem dX1_depth_2 : decode cX1_depth 2 = .ok (.aload_n 0, 1) := by decide +kernel
theorem dX1_depth_3 : decode cX1_depth 3 = .ok (.iload_n 2, 1) := by decide +kernel
theorem dX1_depth_4 : decode cX1_depth 4 = .ok (.aload_n 0, 1) := by decide +kernel
theorem dX1_depth_5 : decode cX1_depth 5 = .ok (.getfield 29, 3) := by decide +kernel
theorem dX1_depth_8 : decode cX1_depth 8 = .ok (.iload_n 1, 1) := by decide +kernel
theorem dX1_depth_9 : decode cX1_depth 9 = .ok (.iaload, 1) := by decide +kernel
theorem dX1_depth_10 : decode cX1_depth 10 = .ok (.invokevirtual 140, 3) := by decide +kernel
theorem dX1_depth_13 : decode cX1_depth 13 = .ok (.iload_n 2, 1) := by decide +kernel
theorem dX1_depth_14 : decode cX1_depth 14 = .ok (.ifCond .le 31, 3) := by decide +kernel
theorem dX1_depth_17 : decode cX1_depth 17 = .ok (.aload_n 0, 1) := by decide +kernel
theorem dX1_depth_18 : decode cX1_depth 18 = .ok (.getfield 134, 3) := by decide +kernel
theorem dX1_depth_21 : decode cX1_depth 21 = .ok (.aload_n 0, 1) := by decide +kernel
theorem dX1_depth_22 : decode cX1_depth 22 = .ok (.getfield 13, 3) := by decide +kernel
theorem dX1_depth_25 : decode cX1_depth 25 = .ok (.if_icmp .ge 20, 3) := by decide +kernel
theorem dX1_depth_28 : decode cX1_depth 28 = .ok (.iinc 2 (-1), 3) := by decide +kernel
theorem dX1_depth_31 : decode cX1_depth 31 = .ok (.aload_n 0, 1) := by decide +kernel
theorem dX1_depth_32 : decode cX1_depth 32 = .ok (.iload_n 2, 1) := by decide +kernel
theorem dX1_depth_33 : decode cX1_depth 33 = .ok (.aload_n 0, 1) := by decide +kernel
theorem dX1_depth_34 : decode cX1_depth 34 = .ok (.getfield 29, 3) := by decide +kernel
theorem dX1_depth_37 : decode cX1_depth 37 = .ok (.iload_n 1, 1) := by decide +kernel
theorem dX1_depth_38 : decode cX1_depth 38 = .ok (.iaload, 1) := by decide +kernel
theorem dX1_depth_39 : decode cX1_depth 39 = .ok (.invokevirtual 140, 3) := by decide +kernel
theorem dX1_depth_42 : decode cX1_depth 42 = .ok (.goto (-29), 3) := by decide +kernel
theorem dX1_depth_45 : decode cX1_depth 45 = .ok (.iload_n 2, 1) := by decide +kernel
theorem dX1_depth_46 : decode cX1_depth 46 = .ok (.ireturn, 1) := by decide +kernel
theorem dX1_told_0 : decode cX1_told 0 = .ok (.aload_n 0, 1) := by decide +kernel
theorem dX1_told_1 : decode cX1_told 1 = .ok (.iload_n 1, 1) := by decide +kernel
theorem dX1_told_2 : decode cX1_told 2 = .ok (.invokevirtual 117, 3) := by decide +kernel
theorem dX1_told_5 : decode cX1_told 5 = .ok (.ifCond .ne 5, 3) := by decide +kernel
theorem dX1_told_8 : decode cX1_told 8 = .ok (.iconst (-1), 1) := by decide +kernel
theorem dX1_told_9 : decode cX1_told 9 = .ok (.ireturn, 1) := by decide +kernel
theorem dX1_told_10 : decode cX1_told 10 = .ok (.iload_n 2, 1) := by decide +kernel
theorem dX1_told_11 : decode cX1_told 11 = .ok (.tableswitch 174 0 12 #[65, 72, 79, 86, 93, 100, 107, 114, 124, 134, 140, 146, 163], 65) := by decide +kernel
theorem dX1_told_76 : decode cX1_told 76 = .ok (.aload_n 0, 1) := by decide +kernel
theorem dX1_told_77 : decode cX1_told 77 = .ok (.getfield 16, 3) := by decide +kernel
theorem dX1_told_80 : decode cX1_told 80 = .ok (.iload_n 1, 1) := by decide +kernel
theorem dX1_told_81 : decode cX1_told 81 = .ok (.iaload, 1) := by decide +kernel
theorem dX1_told_82 : decode cX1_told 82 = .ok (.ireturn, 1) := by decide +kernel
theorem dX1_told_83 : decode cX1_told 83 = .ok (.aload_n 0, 1) := by decide +kernel
theorem dX1_told_84 : decode cX1_told 84 = .ok (.getfield 23, 3) := by decide +kernel
theorem dX1_told_87 : decode cX1_told 87 = .ok (.iload_n 1, 1) := by decide +kernel
theorem dX1_told_88 : decode cX1_told 88 = .ok (.iaload, 1) := by decide +kernel
theorem dX1_told_89 : decode cX1_told 89 = .ok (.ireturn, 1) := by decide +kernel
theorem dX1_told_90 : decode cX1_told 90 = .ok (.aload_n 0, 1) := by decide +kernel
theorem dX1_told_91 : decode cX1_told 91 = .ok (.getfield 26, 3) := by decide +kernel
theorem dX1_told_94 : decode cX1_told 94 = .ok (.iload_n 1, 1) := by decide +kernel
theorem dX1_told_95 : decode cX1_told 95 = .ok (.iaload, 1) := by decide +kernel
theorem dX1_told_96 : decode cX1_told 96 = .ok (.ireturn, 1) := by decide +kernel
theorem dX1_told_97 : decode cX1_told 97 = .ok (.aload_n 0, 1) := by decide +kernel
theorem dX1_told_98 : decode cX1_told 98 = .ok (.getfield 29, 3) := by decide +kernel
theorem dX1_told_101 : decode cX1_told 101 = .ok (.iload_n 1, 1) := by decide +kernel
theorem dX1_told_102 : decode cX1_told 102 = .ok (.iaload, 1) := by decide +kernel
theorem dX1_told_103 : decode cX1_told 103 = .ok (.ireturn, 1) := by decide +kernel
theorem dX1_told_104 : decode cX1_told 104 = .ok (.aload_n 0, 1) := by decide +kernel
theorem dX1_told_105 : decode cX1_told 105 = .ok (.getfield 32, 3) := by decide +kernel
theorem dX1_told_108 : decode cX1_told 108 = .ok (.iload_n 1, 1) := by decide +kernel
theorem dX1_told_109 : decode cX1_told 109 = .ok (.iaload, 1) := by decide +kernel
theorem dX1_told_110 : decode cX1_told 110 = .ok (.ireturn, 1) := by decide +kernel
theorem dX1_told_111 : decode cX1_told 111 = .ok (.aload_n 0, 1) := by decide +kernel
theorem dX1_told_112 : decode cX1_told 112 = .ok (.getfield 35, 3) := by decide +kernel
theorem dX1_told_115 : decode cX1_told 115 = .ok (.iload_n 1, 1) := by decide +kernel
theorem dX1_told_116 : decode cX1_told 116 = .ok (.iaload, 1) := by decide +kernel
theorem dX1_told_117 : decode cX1_told 117 = .ok (.ireturn, 1) := by decide +kernel
theorem dX1_told_118 : decode cX1_told 118 = .ok (.aload_n 0, 1) := by decide +kernel
theorem dX1_told_119 : decode cX1_told 119 = .ok (.getfield 38, 3) := by decide +kernel
theorem dX1_told_122 : decode cX1_told 122 = .ok (.iload_n 1, 1) := by decide +kernel
theorem dX1_told_123 : decode cX1_told 123 = .ok (.iaload, 1) := by decide +kernel
theorem dX1_told_124 : decode cX1_told 124 = .ok (.ireturn, 1) := by decide +kernel
theorem dX1_told_125 : decode cX1_told 125 = .ok (.aload_n 0, 1) := by decide +kernel
theorem dX1_told_126 : decode cX1_told 126 = .ok (.getfield 47, 3) := by decide +kernel
theorem dX1_told_129 : decode cX1_told 129 = .ok (.iload_n 1, 1) := by decide +kernel
theorem dX1_told_130 : decode cX1_told 130 = .ok (.baload, 1) := by decide +kernel
theorem dX1_told_131 : decode cX1_told 131 = .ok (.invokestatic 107, 3) := by decide +kernel
theorem dX1_told_134 : decode cX1_told 134 = .ok (.ireturn, 1) := by decide +kernel
theorem dX1_told_135 : decode cX1_told 135 = .ok (.aload_n 0, 1) := by decide +kernel
theorem dX1_told_136 : decode cX1_told 136 = .ok (.getfield 51, 3) := by decide +kernel
theorem dX1_told_139 : decode cX1_told 139 = .ok (.iload_n 1, 1) := by decide +kernel
theorem dX1_told_140 : decode cX1_told 140 = .ok (.baload, 1) := by decide +kernel
theorem dX1_told_141 : decode cX1_told 141 = .ok (.invokestatic 107, 3) := by decide +kernel
theorem dX1_told_144 : decode cX1_told 144 = .ok (.ireturn, 1) := by decide +kernel
theorem dX1_told_145 : decode cX1_told 145 = .ok (.aload_n 0, 1) := by decide +kernel
theorem dX1_told_146 : decode cX1_told 146 = .ok (.iload_n 1, 1) := by decide +kernel
theorem dX1_told_147 : decode cX1_told 147 = .ok (.invokevirtual 152, 3) := by decide +kernel
theorem dX1_told_150 : decode cX1_told 150 = .ok (.ireturn, 1) := by decide +kernel
theorem dX1_told_151 : decode cX1_told 151 = .ok (.aload_n 0, 1) := by decide +kernel
theorem dX1_told_152 : decode cX1_told 152 = .ok (.iload_n 1, 1) := by decide +kernel
theorem dX1_told_153 : decode cX1_told 153 = .ok (.invokevirtual 144, 3) := by decide +kernel
theorem dX1_told_156 : decode cX1_told 156 = .ok (.ireturn, 1) := by decide +kernel
theorem dX1_told_157 : decode cX1_told 157 = .ok (.aload_n 0, 1) := by decide +kernel
theorem dX1_told_158 : decode cX1_told 158 = .ok (.getfield 41, 3) := by decide +kernel
theorem dX1_told_161 : decode cX1_told 161 = .ok (.iload_n 1, 1) := by decide +kernel
theorem dX1_told_162 : decode cX1_told 162 = .ok (.iaload, 1) := by decide +kernel
theorem dX1_told_163 : decode cX1_told 163 = .ok (.aload_n 0, 1) := by decide +kernel
theorem dX1_told_164 : decode cX1_told 164 = .ok (.getfield 44, 3) := by decide +kernel
theorem dX1_told_167 : decode cX1_told 167 = .ok (.iload_n 1, 1) := by decide +kernel
theorem dX1_told_168 : decode cX1_told 168 = .ok (.iaload, 1) := by decide +kernel
theorem dX1_told_169 : decode cX1_told 169 = .ok (.ior, 1) := by decide +kernel
theorem dX1_told_170 : decode cX1_told 170 = .ok (.invokestatic 120, 3) := by decide +kernel
theorem dX1_told_173 : decode cX1_told 173 = .ok (.ireturn, 1) := by decide +kernel
theorem dX1_told_174 : decode cX1_told 174 = .ok (.aload_n 0, 1) := by decide +kernel
theorem dX1_told_175 : decode cX1_told 175 = .ok (.invokevirtual 174, 3) := by decide +kernel
theorem dX1_told_178 : decode cX1_told 178 = .ok (.aload_n 0, 1) := by decide +kernel
theorem dX1_told_179 : decode cX1_told 179 = .ok (.getfield 72, 3) := by decide +kernel
theorem dX1_told_182 : decode cX1_told 182 = .ok (.iload_n 1, 1) := by decide +kernel
theorem dX1_told_183 : decode cX1_told 183 = .ok (.iaload, 1) := by decide +kernel
theorem dX1_told_184 : decode cX1_told 184 = .ok (.ireturn, 1) := by decide +kernel
theorem dX1_told_185 : decode cX1_told 185 = .ok (.iconst (-1), 1) := by decide +kernel
theorem dX1_told_186 : decode cX1_told 186 = .ok (.ireturn, 1) := by decide +kernel
theorem dX1_score_0 : decode cX1_score 0 = .ok (.aload_n 0, 1) := by decide +kernel
theorem dX1_score_1 : decode cX1_score 1 = .ok (.iload_n 1, 1) := by decide +kernel
theorem dX1_score_2 : decode cX1_score 2 = .ok (.invokevirtual 144, 3) := by decide +kernel
theorem dX1_score_5 : decode cX1_score 5 = .ok (.pop, 1) := by decide +kernel
theorem dX1_score_6 : decode cX1_score 6 = .ok (.aload_n 0, 1) := by decide +kernel
theorem dX1_score_7 : decode cX1_score 7 = .ok (.getfield 134, 3) := by decide +kernel
theorem dX1_score_10 : decode cX1_score 10 = .ok (.ifCond .ne 16, 3) := by decide +kernel
theorem dX1_score_13 : decode cX1_score 13 = .ok (.sipush 500, 3) := by decide +kernel
theorem dX1_score_16 : decode cX1_score 16 = .ok (.aload_n 0, 1) := by decide +kernel
theorem dX1_score_17 : decode cX1_score 17 = .ok (.getfield 32, 3) := by decide +kernel
theorem dX1_score_20 : decode cX1_score 20 = .ok (.iload_n 1, 1) := by decide +kernel
theorem dX1_score_21 : decode cX1_score 21 = .ok (.iaload, 1) := by decide +kernel
theorem dX1_score_22 : decode cX1_score 22 = .ok (.imul, 1) := by decide +kernel
theorem dX1_score_23 : decode cX1_score 23 = .ok (.goto 23, 3) := by decide +kernel
theorem dX1_score_26 : decode cX1_score 26 = .ok (.sipush 1000, 3) := by decide +kernel
theorem dX1_score_29 : decode cX1_score 29 = .ok (.aload_n 0, 1) := by decide +kernel
theorem dX1_score_30 : decode cX1_score 30 = .ok (.getfield 32, 3) := by decide +kernel
theorem dX1_score_33 : decode cX1_score 33 = .ok (.iload_n 1, 1) := by decide +kernel
theorem dX1_score_34 : decode cX1_score 34 = .ok (.iaload, 1) := by decide +kernel
theorem dX1_score_35 : decode cX1_score 35 = .ok (.imul, 1) := by decide +kernel
theorem dX1_score_36 : decode cX1_score 36 = .ok (.aload_n 0, 1) := by decide +kernel
theorem dX1_score_37 : decode cX1_score 37 = .ok (.getfield 131, 3) := by decide +kernel
theorem dX1_score_40 : decode cX1_score 40 = .ok (.imul, 1) := by decide +kernel
theorem dX1_score_41 : decode cX1_score 41 = .ok (.aload_n 0, 1) := by decide +kernel
theorem dX1_score_42 : decode cX1_score 42 = .ok (.getfield 134, 3) := by decide +kernel
theorem dX1_score_45 : decode cX1_score 45 = .ok (.idiv, 1) := by decide +kernel
theorem dX1_score_46 : decode cX1_score 46 = .ok (.ireturn, 1) := by decide +kernel
theorem dX1_joins_0 : decode cX1_joins 0 = .ok (.iconst 0, 1) := by decide +kernel
theorem dX1_joins_1 : decode cX1_joins 1 = .ok (.istore_n 1, 1) := by decide +kernel
theorem dX1_joins_2 : decode cX1_joins 2 = .ok (.iload_n 1, 1) := by decide +kernel
theorem dX1_joins_3 : decode cX1_joins 3 = .ok (.aload_n 0, 1) := by decide +kernel
theorem dX1_joins_4 : decode cX1_joins 4 = .ok (.getfield 93, 3) := by decide +kernel
theorem dX1_joins_7 : decode cX1_joins 7 = .ok (.if_icmp .ge 51, 3) := by decide +kernel
theorem dX1_joins_10 : decode cX1_joins 10 = .ok (.aload_n 0, 1) := by decide +kernel
theorem dX1_joins_11 : decode cX1_joins 11 = .ok (.getfield 72, 3) := by decide +kernel
theorem dX1_joins_14 : decode cX1_joins 14 = .ok (.iload_n 1, 1) := by decide +kernel
theorem dX1_joins_15 : decode cX1_joins 15 = .ok (.aload_n 0, 1) := by decide +kernel
theorem dX1_joins_16 : decode cX1_joins 16 = .ok (.iload_n 1, 1) := by decide +kernel
theorem dX1_joins_17 : decode cX1_joins 17 = .ok (.invokevirtual 103, 3) := by decide +kernel
theorem dX1_joins_20 : decode cX1_joins 20 = .ok (.ifCond .eq 7, 3) := by decide +kernel
theorem dX1_joins_23 : decode cX1_joins 23 = .ok (.iload_n 1, 1) := by decide +kernel
theorem dX1_joins_24 : decode cX1_joins 24 = .ok (.goto 4, 3) := by decide +kernel
theorem dX1_joins_27 : decode cX1_joins 27 = .ok (.iconst (-1), 1) := by decide +kernel
theorem dX1_joins_28 : decode cX1_joins 28 = .ok (.iastore, 1) := by decide +kernel
theorem dX1_joins_29 : decode cX1_joins 29 = .ok (.aload_n 0, 1) := by decide +kernel
theorem dX1_joins_30 : decode cX1_joins 30 = .ok (.getfield 75, 3) := by decide +kernel
theorem dX1_joins_33 : decode cX1_joins 33 = .ok (.iload_n 1, 1) := by decide +kernel
theorem dX1_joins_34 : decode cX1_joins 34 = .ok (.aload_n 0, 1) := by decide +kernel
theorem dX1_joins_35 : decode cX1_joins 35 = .ok (.iload_n 1, 1) := by decide +kernel
theorem dX1_joins_36 : decode cX1_joins 36 = .ok (.invokevirtual 103, 3) := by decide +kernel
theorem dX1_joins_39 : decode cX1_joins 39 = .ok (.ifCond .eq 11, 3) := by decide +kernel
theorem dX1_joins_42 : decode cX1_joins 42 = .ok (.aload_n 0, 1) := by decide +kernel
theorem dX1_joins_43 : decode cX1_joins 43 = .ok (.iload_n 1, 1) := by decide +kernel
theorem dX1_joins_44 : decode cX1_joins 44 = .ok (.invokevirtual 152, 3) := by decide +kernel
theorem dX1_joins_47 : decode cX1_joins 47 = .ok (.goto 4, 3) := by decide +kernel
theorem dX1_joins_50 : decode cX1_joins 50 = .ok (.iconst 0, 1) := by decide +kernel
theorem dX1_joins_51 : decode cX1_joins 51 = .ok (.iastore, 1) := by decide +kernel
theorem dX1_joins_52 : decode cX1_joins 52 = .ok (.iinc 1 1, 3) := by decide +kernel
theorem dX1_joins_55 : decode cX1_joins 55 = .ok (.goto (-53), 3) := by decide +kernel
theorem dX1_joins_58 : decode cX1_joins 58 = .ok (.iconst 0, 1) := by decide +kernel
theorem dX1_joins_59 : decode cX1_joins 59 = .ok (.istore_n 1, 1) := by decide +kernel
theorem dX1_joins_60 : decode cX1_joins 60 = .ok (.iload_n 1, 1) := by decide +kernel
theorem dX1_joins_61 : decode cX1_joins 61 = .ok (.aload_n 0, 1) := by decide +kernel
theorem dX1_joins_62 : decode cX1_joins 62 = .ok (.getfield 93, 3) := by decide +kernel
theorem dX1_joins_65 : decode cX1_joins 65 = .ok (.if_icmp .ge 145, 3) := by decide +kernel
theorem dX1_joins_68 : decode cX1_joins 68 = .ok (.iload_n 1, 1) := by decide +kernel
theorem dX1_joins_69 : decode cX1_joins 69 = .ok (.iconst 1, 1) := by decide +kernel
theorem dX1_joins_70 : decode cX1_joins 70 = .ok (.iadd, 1) := by decide +kernel
theorem dX1_joins_71 : decode cX1_joins 71 = .ok (.istore_n 2, 1) := by decide +kernel
theorem dX1_joins_72 : decode cX1_joins 72 = .ok (.iload_n 2, 1) := by decide +kernel
theorem dX1_joins_73 : decode cX1_joins 73 = .ok (.aload_n 0, 1) := by decide +kernel
theorem dX1_joins_74 : decode cX1_joins 74 = .ok (.getfield 93, 3) := by decide +kernel
theorem dX1_joins_77 : decode cX1_joins 77 = .ok (.if_icmp .ge 127, 3) := by decide +kernel
theorem dX1_joins_80 : decode cX1_joins 80 = .ok (.aload_n 0, 1) := by decide +kernel
theorem dX1_joins_81 : decode cX1_joins 81 = .ok (.getfield 72, 3) := by decide +kernel
theorem dX1_joins_84 : decode cX1_joins 84 = .ok (.iload_n 1, 1) := by decide +kernel
theorem dX1_joins_85 : decode cX1_joins 85 = .ok (.iaload, 1) := by decide +kernel
theorem dX1_joins_86 : decode cX1_joins 86 = .ok (.iconst (-1), 1) := by decide +kernel
theorem dX1_joins_87 : decode cX1_joins 87 = .ok (.if_icmp .eq 111, 3) := by decide +kernel
theorem dX1_joins_90 : decode cX1_joins 90 = .ok (.aload_n 0, 1) := by decide +kernel
theorem dX1_joins_91 : decode cX1_joins 91 = .ok (.getfield 72, 3) := by decide +kernel
theorem dX1_joins_94 : decode cX1_joins 94 = .ok (.iload_n 2, 1) := by decide +kernel
theorem dX1_joins_95 : decode cX1_joins 95 = .ok (.iaload, 1) := by decide +kernel
theorem dX1_joins_96 : decode cX1_joins 96 = .ok (.iconst (-1), 1) := by decide +kernel
theorem dX1_joins_97 : decode cX1_joins 97 = .ok (.if_icmp .eq 101, 3) := by decide +kernel
theorem dX1_joins_100 : decode cX1_joins 100 = .ok (.aload_n 0, 1) := by decide +kernel
theorem dX1_joins_101 : decode cX1_joins 101 = .ok (.getfield 72, 3) := by decide +kernel
theorem dX1_joins_104 : decode cX1_joins 104 = .ok (.iload_n 1, 1) := by decide +kernel
theorem dX1_joins_105 : decode cX1_joins 105 = .ok (.iaload, 1) := by decide +kernel
theorem dX1_joins_106 : decode cX1_joins 106 = .ok (.aload_n 0, 1) := by decide +kernel
theorem dX1_joins_107 : decode cX1_joins 107 = .ok (.getfield 72, 3) := by decide +kernel
theorem dX1_joins_110 : decode cX1_joins 110 = .ok (.iload_n 2, 1) := by decide +kernel
theorem dX1_joins_111 : decode cX1_joins 111 = .ok (.iaload, 1) := by decide +kernel
theorem dX1_joins_112 : decode cX1_joins 112 = .ok (.if_icmp .eq 86, 3) := by decide +kernel
theorem dX1_joins_115 : decode cX1_joins 115 = .ok (.aload_n 0, 1) := by decide +kernel
theorem dX1_joins_116 : decode cX1_joins 116 = .ok (.iload_n 1, 1) := by decide +kernel
theorem dX1_joins_117 : decode cX1_joins 117 = .ok (.iload_n 2, 1) := by decide +kernel
theorem dX1_joins_118 : decode cX1_joins 118 = .ok (.invokevirtual 155, 3) := by decide +kernel
theorem dX1_joins_121 : decode cX1_joins 121 = .ok (.ifCond .ne 6, 3) := by decide +kernel
theorem dX1_joins_124 : decode cX1_joins 124 = .ok (.goto 74, 3) := by decide +kernel
theorem dX1_joins_127 : decode cX1_joins 127 = .ok (.aload_n 0, 1) := by decide +kernel
theorem dX1_joins_128 : decode cX1_joins 128 = .ok (.getfield 72, 3) := by decide +kernel
theorem dX1_joins_131 : decode cX1_joins 131 = .ok (.iload_n 1, 1) := by decide +kernel
theorem dX1_joins_132 : decode cX1_joins 132 = .ok (.iaload, 1) := by decide +kernel
theorem dX1_joins_133 : decode cX1_joins 133 = .ok (.aload_n 0, 1) := by decide +kernel
theorem dX1_joins_134 : decode cX1_joins 134 = .ok (.getfield 72, 3) := by decide +kernel
theorem dX1_joins_137 : decode cX1_joins 137 = .ok (.iload_n 2, 1) := by decide +kernel
theorem dX1_joins_138 : decode cX1_joins 138 = .ok (.iaload, 1) := by decide +kernel
theorem dX1_joins_139 : decode cX1_joins 139 = .ok (.invokestatic 159, 3) := by decide +kernel
theorem dX1_joins_142 : decode cX1_joins 142 = .ok (.istore_n 3, 1) := by decide +kernel
theorem dX1_joins_143 : decode cX1_joins 143 = .ok (.aload_n 0, 1) := by decide +kernel
theorem dX1_joins_144 : decode cX1_joins 144 = .ok (.getfield 72, 3) := by decide +kernel
theorem dX1_joins_147 : decode cX1_joins 147 = .ok (.iload_n 1, 1) := by decide +kernel
theorem dX1_joins_148 : decode cX1_joins 148 = .ok (.iaload, 1) := by decide +kernel
theorem dX1_joins_149 : decode cX1_joins 149 = .ok (.aload_n 0, 1) := by decide +kernel
theorem dX1_joins_150 : decode cX1_joins 150 = .ok (.getfield 72, 3) := by decide +kernel
theorem dX1_joins_153 : decode cX1_joins 153 = .ok (.iload_n 2, 1) := by decide +kernel
theorem dX1_joins_154 : decode cX1_joins 154 = .ok (.iaload, 1) := by decide +kernel
theorem dX1_joins_155 : decode cX1_joins 155 = .ok (.invokestatic 162, 3) := by decide +kernel
theorem dX1_joins_158 : decode cX1_joins 158 = .ok (.istore 4, 2) := by decide +kernel
theorem dX1_joins_160 : decode cX1_joins 160 = .ok (.iconst 0, 1) := by decide +kernel
theorem dX1_joins_161 : decode cX1_joins 161 = .ok (.istore 5, 2) := by decide +kernel
theorem dX1_joins_163 : decode cX1_joins 163 = .ok (.iload 5, 2) := by decide +kernel
theorem dX1_joins_165 : decode cX1_joins 165 = .ok (.aload_n 0, 1) := by decide +kernel
theorem dX1_joins_166 : decode cX1_joins 166 = .ok (.getfield 93, 3) := by decide +kernel
theorem dX1_joins_169 : decode cX1_joins 169 = .ok (.if_icmp .ge 29, 3) := by decide +kernel
theorem dX1_joins_172 : decode cX1_joins 172 = .ok (.aload_n 0, 1) := by decide +kernel
theorem dX1_joins_173 : decode cX1_joins 173 = .ok (.getfield 72, 3) := by decide +kernel
theorem dX1_joins_176 : decode cX1_joins 176 = .ok (.iload 5, 2) := by decide +kernel
theorem dX1_joins_178 : decode cX1_joins 178 = .ok (.iaload, 1) := by decide +kernel
theorem dX1_joins_179 : decode cX1_joins 179 = .ok (.iload 4, 2) := by decide +kernel
theorem dX1_joins_181 : decode cX1_joins 181 = .ok (.if_icmp .ne 11, 3) := by decide +kernel
theorem dX1_joins_184 : decode cX1_joins 184 = .ok (.aload_n 0, 1) := by decide +kernel
theorem dX1_joins_185 : decode cX1_joins 185 = .ok (.getfield 72, 3) := by decide +kernel
theorem dX1_joins_188 : decode cX1_joins 188 = .ok (.iload 5, 2) := by decide +kernel
theorem dX1_joins_190 : decode cX1_joins 190 = .ok (.iload_n 3, 1) := by decide +kernel
theorem dX1_joins_191 : decode cX1_joins 191 = .ok (.iastore, 1) := by decide +kernel
theorem dX1_joins_192 : decode cX1_joins 192 = .ok (.iinc 5 1, 3) := by decide +kernel
theorem dX1_joins_195 : decode cX1_joins 195 = .ok (.goto (-32), 3) := by decide +kernel
theorem dX1_joins_198 : decode cX1_joins 198 = .ok (.iinc 2 1, 3) := by decide +kernel
theorem dX1_joins_201 : decode cX1_joins 201 = .ok (.goto (-129), 3) := by decide +kernel
theorem dX1_joins_204 : decode cX1_joins 204 = .ok (.iinc 1 1, 3) := by decide +kernel
theorem dX1_joins_207 : decode cX1_joins 207 = .ok (.goto (-147), 3) := by decide +kernel
theorem dX1_joins_210 : decode cX1_joins 210 = .ok (.aload_n 0, 1) := by decide +kernel
theorem dX1_joins_211 : decode cX1_joins 211 = .ok (.iconst 0, 1) := by decide +kernel
theorem dX1_joins_212 : decode cX1_joins 212 = .ok (.putfield 165, 3) := by decide +kernel
theorem dX1_joins_215 : decode cX1_joins 215 = .ok (.iconst 0, 1) := by decide +kernel
theorem dX1_joins_216 : decode cX1_joins 216 = .ok (.istore_n 1, 1) := by decide +kernel
theorem dX1_joins_217 : decode cX1_joins 217 = .ok (.iload_n 1, 1) := by decide +kernel
theorem dX1_joins_218 : decode cX1_joins 218 = .ok (.aload_n 0, 1) := by decide +kernel
theorem dX1_joins_219 : decode cX1_joins 219 = .ok (.getfield 93, 3) := by decide +kernel
theorem dX1_joins_222 : decode cX1_joins 222 = .ok (.if_icmp .ge 90, 3) := by decide +kernel
theorem dX1_joins_225 : decode cX1_joins 225 = .ok (.aload_n 0, 1) := by decide +kernel
theorem dX1_joins_226 : decode cX1_joins 226 = .ok (.getfield 72, 3) := by decide +kernel
theorem dX1_joins_229 : decode cX1_joins 229 = .ok (.iload_n 1, 1) := by decide +kernel
theorem dX1_joins_230 : decode cX1_joins 230 = .ok (.iaload, 1) := by decide +kernel
theorem dX1_joins_231 : decode cX1_joins 231 = .ok (.iload_n 1, 1) := by decide +kernel
theorem dX1_joins_232 : decode cX1_joins 232 = .ok (.if_icmp .eq 6, 3) := by decide +kernel
theorem dX1_joins_235 : decode cX1_joins 235 = .ok (.goto 71, 3) := by decide +kernel
theorem dX1_joins_238 : decode cX1_joins 238 = .ok (.aload_n 0, 1) := by decide +kernel
theorem dX1_joins_239 : decode cX1_joins 239 = .ok (.iload_n 1, 1) := by decide +kernel
theorem dX1_joins_240 : decode cX1_joins 240 = .ok (.invokevirtual 168, 3) := by decide +kernel
theorem dX1_joins_243 : decode cX1_joins 243 = .ok (.istore_n 2, 1) := by decide +kernel
theorem dX1_joins_244 : decode cX1_joins 244 = .ok (.aload_n 0, 1) := by decide +kernel
theorem dX1_joins_245 : decode cX1_joins 245 = .ok (.getfield 165, 3) := by decide +kernel
theorem dX1_joins_248 : decode cX1_joins 248 = .ok (.istore_n 3, 1) := by decide +kernel
theorem dX1_joins_249 : decode cX1_joins 249 = .ok (.iload_n 3, 1) := by decide +kernel
theorem dX1_joins_250 : decode cX1_joins 250 = .ok (.ifCond .le 39, 3) := by decide +kernel
theorem dX1_joins_253 : decode cX1_joins 253 = .ok (.aload_n 0, 1) := by decide +kernel
theorem dX1_joins_254 : decode cX1_joins 254 = .ok (.aload_n 0, 1) := by decide +kernel
theorem dX1_joins_255 : decode cX1_joins 255 = .ok (.getfield 78, 3) := by decide +kernel
theorem dX1_joins_258 : decode cX1_joins 258 = .ok (.iload_n 3, 1) := by decide +kernel
theorem dX1_joins_259 : decode cX1_joins 259 = .ok (.iconst 1, 1) := by decide +kernel
theorem dX1_joins_260 : decode cX1_joins 260 = .ok (.isub, 1) := by decide +kernel
theorem dX1_joins_261 : decode cX1_joins 261 = .ok (.iaload, 1) := by decide +kernel
theorem dX1_joins_262 : decode cX1_joins 262 = .ok (.invokevirtual 168, 3) := by decide +kernel
theorem dX1_joins_265 : decode cX1_joins 265 = .ok (.iload_n 2, 1) := by decide +kernel
theorem dX1_joins_266 : decode cX1_joins 266 = .ok (.if_icmp .ge 23, 3) := by decide +kernel
theorem dX1_joins_269 : decode cX1_joins 269 = .ok (.aload_n 0, 1) := by decide +kernel
theorem dX1_joins_270 : decode cX1_joins 270 = .ok (.getfield 78, 3) := by decide +kernel
theorem dX1_joins_273 : decode cX1_joins 273 = .ok (.iload_n 3, 1) := by decide +kernel
theorem dX1_joins_274 : decode cX1_joins 274 = .ok (.aload_n 0, 1) := by decide +kernel
theorem dX1_joins_275 : decode cX1_joins 275 = .ok (.getfield 78, 3) := by decide +kernel
theorem dX1_joins_278 : decode cX1_joins 278 = .ok (.iload_n 3, 1) := by decide +kernel
theorem dX1_joins_279 : decode cX1_joins 279 = .ok (.iconst 1, 1) := by decide +kernel
theorem dX1_joins_280 : decode cX1_joins 280 = .ok (.isub, 1) := by decide +kernel
theorem dX1_joins_281 : decode cX1_joins 281 = .ok (.iaload, 1) := by decide +kernel
theorem dX1_joins_282 : decode cX1_joins 282 = .ok (.iastore, 1) := by decide +kernel
theorem dX1_joins_283 : decode cX1_joins 283 = .ok (.iinc 3 (-1), 3) := by decide +kernel
theorem dX1_joins_286 : decode cX1_joins 286 = .ok (.goto (-37), 3) := by decide +kernel
theorem dX1_joins_289 : decode cX1_joins 289 = .ok (.aload_n 0, 1) := by decide +kernel
theorem dX1_joins_290 : decode cX1_joins 290 = .ok (.getfield 78, 3) := by decide +kernel
theorem dX1_joins_293 : decode cX1_joins 293 = .ok (.iload_n 3, 1) := by decide +kernel
theorem dX1_joins_294 : decode cX1_joins 294 = .ok (.iload_n 1, 1) := by decide +kernel
theorem dX1_joins_295 : decode cX1_joins 295 = .ok (.iastore, 1) := by decide +kernel
theorem dX1_joins_296 : decode cX1_joins 296 = .ok (.aload_n 0, 1) := by decide +kernel
theorem dX1_joins_297 : decode cX1_joins 297 = .ok (.dup, 1) := by decide +kernel
theorem dX1_joins_298 : decode cX1_joins 298 = .ok (.getfield 165, 3) := by decide +kernel
theorem dX1_joins_301 : decode cX1_joins 301 = .ok (.iconst 1, 1) := by decide +kernel
theorem dX1_joins_302 : decode cX1_joins 302 = .ok (.iadd, 1) := by decide +kernel
theorem dX1_joins_303 : decode cX1_joins 303 = .ok (.putfield 165, 3) := by decide +kernel
theorem dX1_joins_306 : decode cX1_joins 306 = .ok (.iinc 1 1, 3) := by decide +kernel
theorem dX1_joins_309 : decode cX1_joins 309 = .ok (.goto (-92), 3) := by decide +kernel
theorem dX1_joins_312 : decode cX1_joins 312 = .ok (.return_, 1) := by decide +kernel
theorem dX1_hangs_0 : decode cX1_hangs 0 = .ok (.aload_n 0, 1) := by decide +kernel
theorem dX1_hangs_1 : decode cX1_hangs 1 = .ok (.iload_n 1, 1) := by decide +kernel
theorem dX1_hangs_2 : decode cX1_hangs 2 = .ok (.iload_n 2, 1) := by decide +kernel
theorem dX1_hangs_3 : decode cX1_hangs 3 = .ok (.invokevirtual 127, 3) := by decide +kernel
theorem dX1_hangs_6 : decode cX1_hangs 6 = .ok (.istore_n 3, 1) := by decide +kernel
theorem dX1_hangs_7 : decode cX1_hangs 7 = .ok (.iload_n 3, 1) := by decide +kernel
theorem dX1_hangs_8 : decode cX1_hangs 8 = .ok (.iconst (-1), 1) := by decide +kernel
theorem dX1_hangs_9 : decode cX1_hangs 9 = .ok (.if_icmp .eq 10, 3) := by decide +kernel
theorem dX1_hangs_12 : decode cX1_hangs 12 = .ok (.aload_n 0, 1) := by decide +kernel
theorem dX1_hangs_13 : decode cX1_hangs 13 = .ok (.getfield 69, 3) := by decide +kernel
theorem dX1_hangs_16 : decode cX1_hangs 16 = .ok (.iload_n 3, 1) := by decide +kernel
theorem dX1_hangs_17 : decode cX1_hangs 17 = .ok (.baload, 1) := by decide +kernel
theorem dX1_hangs_18 : decode cX1_hangs 18 = .ok (.ireturn, 1) := by decide +kernel
theorem dX1_hangs_19 : decode cX1_hangs 19 = .ok (.aload_n 0, 1) := by decide +kernel
theorem dX1_hangs_20 : decode cX1_hangs 20 = .ok (.getfield 26, 3) := by decide +kernel
theorem dX1_hangs_23 : decode cX1_hangs 23 = .ok (.iload_n 1, 1) := by decide +kernel
theorem dX1_hangs_24 : decode cX1_hangs 24 = .ok (.iaload, 1) := by decide +kernel
theorem dX1_hangs_25 : decode cX1_hangs 25 = .ok (.aload_n 0, 1) := by decide +kernel
theorem dX1_hangs_26 : decode cX1_hangs 26 = .ok (.getfield 26, 3) := by decide +kernel
theorem dX1_hangs_29 : decode cX1_hangs 29 = .ok (.iload_n 2, 1) := by decide +kernel
theorem dX1_hangs_30 : decode cX1_hangs 30 = .ok (.iaload, 1) := by decide +kernel
theorem dX1_hangs_31 : decode cX1_hangs 31 = .ok (.if_icmp .ne 28, 3) := by decide +kernel
theorem dX1_hangs_34 : decode cX1_hangs 34 = .ok (.aload_n 0, 1) := by decide +kernel
theorem dX1_hangs_35 : decode cX1_hangs 35 = .ok (.getfield 16, 3) := by decide +kernel
theorem dX1_hangs_38 : decode cX1_hangs 38 = .ok (.iload_n 1, 1) := by decide +kernel
theorem dX1_hangs_39 : decode cX1_hangs 39 = .ok (.iaload, 1) := by decide +kernel
theorem dX1_hangs_40 : decode cX1_hangs 40 = .ok (.aload_n 0, 1) := by decide +kernel
theorem dX1_hangs_41 : decode cX1_hangs 41 = .ok (.getfield 16, 3) := by decide +kernel
theorem dX1_hangs_44 : decode cX1_hangs 44 = .ok (.iload_n 2, 1) := by decide +kernel
theorem dX1_hangs_45 : decode cX1_hangs 45 = .ok (.iaload, 1) := by decide +kernel
theorem dX1_hangs_46 : decode cX1_hangs 46 = .ok (.isub, 1) := by decide +kernel
theorem dX1_hangs_47 : decode cX1_hangs 47 = .ok (.invokestatic 147, 3) := by decide +kernel
theorem dX1_hangs_50 : decode cX1_hangs 50 = .ok (.bipush 20, 2) := by decide +kernel
theorem dX1_hangs_52 : decode cX1_hangs 52 = .ok (.if_icmp .gt 7, 3) := by decide +kernel
theorem dX1_hangs_55 : decode cX1_hangs 55 = .ok (.iconst 1, 1) := by decide +kernel
theorem dX1_hangs_56 : decode cX1_hangs 56 = .ok (.goto 4, 3) := by decide +kernel
theorem dX1_hangs_59 : decode cX1_hangs 59 = .ok (.iconst 0, 1) := by decide +kernel
theorem dX1_hangs_60 : decode cX1_hangs 60 = .ok (.ireturn, 1) := by decide +kernel
theorem dX1_scoreOf_0 : decode cX1_scoreOf 0 = .ok (.iconst 0, 1) := by decide +kernel
theorem dX1_scoreOf_1 : decode cX1_scoreOf 1 = .ok (.istore_n 2, 1) := by decide +kernel
theorem dX1_scoreOf_2 : decode cX1_scoreOf 2 = .ok (.iload_n 1, 1) := by decide +kernel
theorem dX1_scoreOf_3 : decode cX1_scoreOf 3 = .ok (.istore_n 3, 1) := by decide +kernel
theorem dX1_scoreOf_4 : decode cX1_scoreOf 4 = .ok (.iload_n 3, 1) := by decide +kernel
theorem dX1_scoreOf_5 : decode cX1_scoreOf 5 = .ok (.aload_n 0, 1) := by decide +kernel
theorem dX1_scoreOf_6 : decode cX1_scoreOf 6 = .ok (.getfield 93, 3) := by decide +kernel
theorem dX1_scoreOf_9 : decode cX1_scoreOf 9 = .ok (.if_icmp .ge 30, 3) := by decide +kernel
theorem dX1_scoreOf_12 : decode cX1_scoreOf 12 = .ok (.aload_n 0, 1) := by decide +kernel
theorem dX1_scoreOf_13 : decode cX1_scoreOf 13 = .ok (.getfield 72, 3) := by decide +kernel
theorem dX1_scoreOf_16 : decode cX1_scoreOf 16 = .ok (.iload_n 3, 1) := by decide +kernel
theorem dX1_scoreOf_17 : decode cX1_scoreOf 17 = .ok (.iaload, 1) := by decide +kernel
theorem dX1_scoreOf_18 : decode cX1_scoreOf 18 = .ok (.iload_n 1, 1) := by decide +kernel
theorem dX1_scoreOf_19 : decode cX1_scoreOf 19 = .ok (.if_icmp .ne 14, 3) := by decide +kernel
theorem dX1_scoreOf_22 : decode cX1_scoreOf 22 = .ok (.iload_n 2, 1) := by decide +kernel
theorem dX1_scoreOf_23 : decode cX1_scoreOf 23 = .ok (.aload_n 0, 1) := by decide +kernel
theorem dX1_scoreOf_24 : decode cX1_scoreOf 24 = .ok (.getfield 75, 3) := by decide +kernel
theorem dX1_scoreOf_27 : decode cX1_scoreOf 27 = .ok (.iload_n 3, 1) := by decide +kernel
theorem dX1_scoreOf_28 : decode cX1_scoreOf 28 = .ok (.iaload, 1) := by decide +kernel
theorem dX1_scoreOf_29 : decode cX1_scoreOf 29 = .ok (.invokestatic 162, 3) := by decide +kernel
theorem dX1_scoreOf_32 : decode cX1_scoreOf 32 = .ok (.istore_n 2, 1) := by decide +kernel
theorem dX1_scoreOf_33 : decode cX1_scoreOf 33 = .ok (.iinc 3 1, 3) := by decide +kernel
theorem dX1_scoreOf_36 : decode cX1_scoreOf 36 = .ok (.goto (-32), 3) := by decide +kernel
theorem dX1_scoreOf_39 : decode cX1_scoreOf 39 = .ok (.iload_n 2, 1) := by decide +kernel
theorem dX1_scoreOf_40 : decode cX1_scoreOf 40 = .ok (.ireturn, 1) := by decide +kernel
theorem dX1_order_0 : decode cX1_order 0 = .ok (.aload_n 0, 1) := by decide +kernel
theorem dX1_order_1 : decode cX1_order 1 = .ok (.invokevirtual 174, 3) := by decide +kernel
theorem dX1_order_4 : decode cX1_order 4 = .ok (.iload_n 1, 1) := by decide +kernel
theorem dX1_order_5 : decode cX1_order 5 = .ok (.iconst 0, 1) := by decide +kernel
theorem dX1_order_6 : decode cX1_order 6 = .ok (.aload_n 0, 1) := by decide +kernel
theorem dX1_order_7 : decode cX1_order 7 = .ok (.getfield 165, 3) := by decide +kernel
theorem dX1_order_10 : decode cX1_order 10 = .ok (.iconst 1, 1) := by decide +kernel
theorem dX1_order_11 : decode cX1_order 11 = .ok (.isub, 1) := by decide +kernel
theorem dX1_order_12 : decode cX1_order 12 = .ok (.invokestatic 96, 3) := by decide +kernel
theorem dX1_order_15 : decode cX1_order 15 = .ok (.ifCond .eq 12, 3) := by decide +kernel
theorem dX1_order_18 : decode cX1_order 18 = .ok (.aload_n 0, 1) := by decide +kernel
theorem dX1_order_19 : decode cX1_order 19 = .ok (.getfield 78, 3) := by decide +kernel
theorem dX1_order_22 : decode cX1_order 22 = .ok (.iload_n 1, 1) := by decide +kernel
theorem dX1_order_23 : decode cX1_order 23 = .ok (.iaload, 1) := by decide +kernel
theorem dX1_order_24 : decode cX1_order 24 = .ok (.goto 4, 3) := by decide +kernel
theorem dX1_order_27 : decode cX1_order 27 = .ok (.iconst (-1), 1) := by decide +kernel
theorem dX1_order_28 : decode cX1_order 28 = .ok (.ireturn, 1) := by decide +kernel
theorem dX1_caseOf_0 : decode cX1_caseOf 0 = .ok (.aload_n 0, 1) := by decide +kernel
theorem dX1_caseOf_1 : decode cX1_caseOf 1 = .ok (.iload_n 1, 1) := by decide +kernel
theorem dX1_caseOf_2 : decode cX1_caseOf 2 = .ok (.invokevirtual 117, 3) := by decide +kernel
theorem dX1_caseOf_5 : decode cX1_caseOf 5 = .ok (.ifCond .ne 5, 3) := by decide +kernel
theorem dX1_caseOf_8 : decode cX1_caseOf 8 = .ok (.iconst (-1), 1) := by decide +kernel
theorem dX1_caseOf_9 : decode cX1_caseOf 9 = .ok (.ireturn, 1) := by decide +kernel
theorem dX1_caseOf_10 : decode cX1_caseOf 10 = .ok (.aload_n 0, 1) := by decide +kernel
theorem dX1_caseOf_11 : decode cX1_caseOf 11 = .ok (.invokevirtual 174, 3) := by decide +kernel
theorem dX1_caseOf_14 : decode cX1_caseOf 14 = .ok (.aload_n 0, 1) := by decide +kernel
theorem dX1_caseOf_15 : decode cX1_caseOf 15 = .ok (.getfield 72, 3) := by decide +kernel
theorem dX1_caseOf_18 : decode cX1_caseOf 18 = .ok (.iload_n 1, 1) := by decide +kernel
theorem dX1_caseOf_19 : decode cX1_caseOf 19 = .ok (.iaload, 1) := by decide +kernel
theorem dX1_caseOf_20 : decode cX1_caseOf 20 = .ok (.iload_n 1, 1) := by decide +kernel
theorem dX1_caseOf_21 : decode cX1_caseOf 21 = .ok (.if_icmp .eq 5, 3) := by decide +kernel
theorem dX1_caseOf_24 : decode cX1_caseOf 24 = .ok (.iconst (-1), 1) := by decide +kernel
theorem dX1_caseOf_25 : decode cX1_caseOf 25 = .ok (.ireturn, 1) := by decide +kernel
theorem dX1_caseOf_26 : decode cX1_caseOf 26 = .ok (.iload_n 2, 1) := by decide +kernel
theorem dX1_caseOf_27 : decode cX1_caseOf 27 = .ok (.ifCond .ne 9, 3) := by decide +kernel
theorem dX1_caseOf_30 : decode cX1_caseOf 30 = .ok (.aload_n 0, 1) := by decide +kernel
theorem dX1_caseOf_31 : decode cX1_caseOf 31 = .ok (.iload_n 1, 1) := by decide +kernel
theorem dX1_caseOf_32 : decode cX1_caseOf 32 = .ok (.invokevirtual 171, 3) := by decide +kernel
theorem dX1_caseOf_35 : decode cX1_caseOf 35 = .ok (.ireturn, 1) := by decide +kernel
theorem dX1_caseOf_36 : decode cX1_caseOf 36 = .ok (.iload_n 2, 1) := by decide +kernel
theorem dX1_caseOf_37 : decode cX1_caseOf 37 = .ok (.iconst 1, 1) := by decide +kernel
theorem dX1_caseOf_38 : decode cX1_caseOf 38 = .ok (.if_icmp .ne 9, 3) := by decide +kernel
theorem dX1_caseOf_41 : decode cX1_caseOf 41 = .ok (.aload_n 0, 1) := by decide +kernel
theorem dX1_caseOf_42 : decode cX1_caseOf 42 = .ok (.iload_n 1, 1) := by decide +kernel
theorem dX1_caseOf_43 : decode cX1_caseOf 43 = .ok (.invokevirtual 168, 3) := by decide +kernel
theorem dX1_caseOf_46 : decode cX1_caseOf 46 = .ok (.ireturn, 1) := by decide +kernel
theorem dX1_caseOf_47 : decode cX1_caseOf 47 = .ok (.iload_n 2, 1) := by decide +kernel
theorem dX1_caseOf_48 : decode cX1_caseOf 48 = .ok (.iconst 2, 1) := by decide +kernel
theorem dX1_caseOf_49 : decode cX1_caseOf 49 = .ok (.if_icmp .ne 9, 3) := by decide +kernel
theorem dX1_caseOf_52 : decode cX1_caseOf 52 = .ok (.aload_n 0, 1) := by decide +kernel
theorem dX1_caseOf_53 : decode cX1_caseOf 53 = .ok (.iload_n 1, 1) := by decide +kernel
theorem dX1_caseOf_54 : decode cX1_caseOf 54 = .ok (.invokevirtual 177, 3) := by decide +kernel
theorem dX1_caseOf_57 : decode cX1_caseOf 57 = .ok (.ireturn, 1) := by decide +kernel
theorem dX1_caseOf_58 : decode cX1_caseOf 58 = .ok (.iload_n 2, 1) := by decide +kernel
theorem dX1_caseOf_59 : decode cX1_caseOf 59 = .ok (.iconst 3, 1) := by decide +kernel
theorem dX1_caseOf_60 : decode cX1_caseOf 60 = .ok (.if_icmp .ne 12, 3) := by decide +kernel
theorem dX1_caseOf_63 : decode cX1_caseOf 63 = .ok (.aload_n 0, 1) := by decide +kernel
theorem dX1_caseOf_64 : decode cX1_caseOf 64 = .ok (.iload_n 1, 1) := by decide +kernel
theorem dX1_caseOf_65 : decode cX1_caseOf 65 = .ok (.invokevirtual 180, 3) := by decide +kernel
theorem dX1_caseOf_68 : decode cX1_caseOf 68 = .ok (.invokestatic 107, 3) := by decide +kernel
theorem dX1_caseOf_71 : decode cX1_caseOf 71 = .ok (.ireturn, 1) := by decide +kernel
theorem dX1_caseOf_72 : decode cX1_caseOf 72 = .ok (.bipush 10, 2) := by decide +kernel
theorem dX1_caseOf_74 : decode cX1_caseOf 74 = .ok (.istore_n 3, 1) := by decide +kernel
theorem dX1_caseOf_75 : decode cX1_caseOf 75 = .ok (.iload_n 1, 1) := by decide +kernel
theorem dX1_caseOf_76 : decode cX1_caseOf 76 = .ok (.istore 4, 2) := by decide +kernel
theorem dX1_caseOf_78 : decode cX1_caseOf 78 = .ok (.iload 4, 2) := by decide +kernel
theorem dX1_caseOf_80 : decode cX1_caseOf 80 = .ok (.aload_n 0, 1) := by decide +kernel
theorem dX1_caseOf_81 : decode cX1_caseOf 81 = .ok (.getfield 93, 3) := by decide +kernel
theorem dX1_caseOf_84 : decode cX1_caseOf 84 = .ok (.if_icmp .ge 34, 3) := by decide +kernel
theorem dX1_caseOf_87 : decode cX1_caseOf 87 = .ok (.aload_n 0, 1) := by decide +kernel
theorem dX1_caseOf_88 : decode cX1_caseOf 88 = .ok (.getfield 72, 3) := by decide +kernel
theorem dX1_caseOf_91 : decode cX1_caseOf 91 = .ok (.iload 4, 2) := by decide +kernel
theorem dX1_caseOf_93 : decode cX1_caseOf 93 = .ok (.iaload, 1) := by decide +kernel
theorem dX1_caseOf_94 : decode cX1_caseOf 94 = .ok (.iload_n 1, 1) := by decide +kernel
theorem dX1_caseOf_95 : decode cX1_caseOf 95 = .ok (.if_icmp .eq 6, 3) := by decide +kernel
theorem dX1_caseOf_98 : decode cX1_caseOf 98 = .ok (.goto 14, 3) := by decide +kernel
theorem dX1_caseOf_101 : decode cX1_caseOf 101 = .ok (.iload_n 3, 1) := by decide +kernel
theorem dX1_caseOf_102 : decode cX1_caseOf 102 = .ok (.iload_n 2, 1) := by decide +kernel
theorem dX1_caseOf_103 : decode cX1_caseOf 103 = .ok (.if_icmp .ne 6, 3) := by decide +kernel
theorem dX1_caseOf_106 : decode cX1_caseOf 106 = .ok (.iload 4, 2) := by decide +kernel
theorem dX1_caseOf_108 : decode cX1_caseOf 108 = .ok (.ireturn, 1) := by decide +kernel
theorem dX1_caseOf_109 : decode cX1_caseOf 109 = .ok (.iinc 3 1, 3) := by decide +kernel
theorem dX1_caseOf_112 : decode cX1_caseOf 112 = .ok (.iinc 4 1, 3) := by decide +kernel
theorem dX1_caseOf_115 : decode cX1_caseOf 115 = .ok (.goto (-37), 3) := by decide +kernel
theorem dX1_caseOf_118 : decode cX1_caseOf 118 = .ok (.iconst (-1), 1) := by decide +kernel
theorem dX1_caseOf_119 : decode cX1_caseOf 119 = .ok (.ireturn, 1) := by decide +kernel
theorem dX1_sizeOf_0 : decode cX1_sizeOf 0 = .ok (.iconst 0, 1) := by decide +kernel
theorem dX1_sizeOf_1 : decode cX1_sizeOf 1 = .ok (.istore_n 2, 1) := by decide +kernel
theorem dX1_sizeOf_2 : decode cX1_sizeOf 2 = .ok (.iload_n 1, 1) := by decide +kernel
theorem dX1_sizeOf_3 : decode cX1_sizeOf 3 = .ok (.istore_n 3, 1) := by decide +kernel
theorem dX1_sizeOf_4 : decode cX1_sizeOf 4 = .ok (.iload_n 3, 1) := by decide +kernel
theorem dX1_sizeOf_5 : decode cX1_sizeOf 5 = .ok (.aload_n 0, 1) := by decide +kernel
theorem dX1_sizeOf_6 : decode cX1_sizeOf 6 = .ok (.getfield 93, 3) := by decide +kernel
theorem dX1_sizeOf_9 : decode cX1_sizeOf 9 = .ok (.if_icmp .ge 30, 3) := by decide +kernel
theorem dX1_sizeOf_12 : decode cX1_sizeOf 12 = .ok (.iload_n 2, 1) := by decide +kernel
theorem dX1_sizeOf_13 : decode cX1_sizeOf 13 = .ok (.aload_n 0, 1) := by decide +kernel
theorem dX1_sizeOf_14 : decode cX1_sizeOf 14 = .ok (.getfield 72, 3) := by decide +kernel
theorem dX1_sizeOf_17 : decode cX1_sizeOf 17 = .ok (.iload_n 3, 1) := by decide +kernel
theorem dX1_sizeOf_18 : decode cX1_sizeOf 18 = .ok (.iaload, 1) := by decide +kernel
theorem dX1_sizeOf_19 : decode cX1_sizeOf 19 = .ok (.iload_n 1, 1) := by decide +kernel
theorem dX1_sizeOf_20 : decode cX1_sizeOf 20 = .ok (.if_icmp .ne 7, 3) := by decide +kernel
theorem dX1_sizeOf_23 : decode cX1_sizeOf 23 = .ok (.iconst 1, 1) := by decide +kernel
theorem dX1_sizeOf_24 : decode cX1_sizeOf 24 = .ok (.goto 4, 3) := by decide +kernel
theorem dX1_sizeOf_27 : decode cX1_sizeOf 27 = .ok (.iconst 0, 1) := by decide +kernel
theorem dX1_sizeOf_28 : decode cX1_sizeOf 28 = .ok (.invokestatic 107, 3) := by decide +kernel
theorem dX1_sizeOf_31 : decode cX1_sizeOf 31 = .ok (.iadd, 1) := by decide +kernel
theorem dX1_sizeOf_32 : decode cX1_sizeOf 32 = .ok (.istore_n 2, 1) := by decide +kernel
theorem dX1_sizeOf_33 : decode cX1_sizeOf 33 = .ok (.iinc 3 1, 3) := by decide +kernel
theorem dX1_sizeOf_36 : decode cX1_sizeOf 36 = .ok (.goto (-32), 3) := by decide +kernel
theorem dX1_sizeOf_39 : decode cX1_sizeOf 39 = .ok (.iload_n 2, 1) := by decide +kernel
theorem dX1_sizeOf_40 : decode cX1_sizeOf 40 = .ok (.ireturn, 1) := by decide +kernel
theorem dX1_minutesOf_0 : decode cX1_minutesOf 0 = .ok (.iconst 5, 1) := by decide +kernel
theorem dX1_minutesOf_1 : decode cX1_minutesOf 1 = .ok (.iconst 2, 1) := by decide +kernel
theorem dX1_minutesOf_2 : decode cX1_minutesOf 2 = .ok (.aload_n 0, 1) := by decide +kernel
theorem dX1_minutesOf_3 : decode cX1_minutesOf 3 = .ok (.iload_n 1, 1) := by decide +kernel
theorem dX1_minutesOf_4 : decode cX1_minutesOf 4 = .ok (.invokevirtual 171, 3) := by decide +kernel
theorem dX1_minutesOf_7 : decode cX1_minutesOf 7 = .ok (.imul, 1) := by decide +kernel
theorem dX1_minutesOf_8 : decode cX1_minutesOf 8 = .ok (.iadd, 1) := by decide +kernel
theorem dX1_minutesOf_9 : decode cX1_minutesOf 9 = .ok (.ireturn, 1) := by decide +kernel
theorem dX1_isLittleKnown_0 : decode cX1_isLittleKnown 0 = .ok (.iload_n 1, 1) := by decide +kernel
theorem dX1_isLittleKnown_1 : decode cX1_isLittleKnown 1 = .ok (.istore_n 2, 1) := by decide +kernel
theorem dX1_isLittleKnown_2 : decode cX1_isLittleKnown 2 = .ok (.iload_n 2, 1) := by decide +kernel
theorem dX1_isLittleKnown_3 : decode cX1_isLittleKnown 3 = .ok (.aload_n 0, 1) := by decide +kernel
theorem dX1_isLittleKnown_4 : decode cX1_isLittleKnown 4 = .ok (.getfield 93, 3) := by decide +kernel
theorem dX1_isLittleKnown_7 : decode cX1_isLittleKnown 7 = .ok (.if_icmp .ge 29, 3) := by decide +kernel
theorem dX1_isLittleKnown_10 : decode cX1_isLittleKnown 10 = .ok (.aload_n 0, 1) := by decide +kernel
theorem dX1_isLittleKnown_11 : decode cX1_isLittleKnown 11 = .ok (.getfield 72, 3) := by decide +kernel
theorem dX1_isLittleKnown_14 : decode cX1_isLittleKnown 14 = .ok (.iload_n 2, 1) := by decide +kernel
theorem dX1_isLittleKnown_15 : decode cX1_isLittleKnown 15 = .ok (.iaload, 1) := by decide +kernel
theorem dX1_isLittleKnown_16 : decode cX1_isLittleKnown 16 = .ok (.iload_n 1, 1) := by decide +kernel
theorem dX1_isLittleKnown_17 : decode cX1_isLittleKnown 17 = .ok (.if_icmp .ne 13, 3) := by decide +kernel
theorem dX1_isLittleKnown_20 : decode cX1_isLittleKnown 20 = .ok (.aload_n 0, 1) := by decide +kernel
theorem dX1_isLittleKnown_21 : decode cX1_isLittleKnown 21 = .ok (.iload_n 2, 1) := by decide +kernel
theorem dX1_isLittleKnown_22 : decode cX1_isLittleKnown 22 = .ok (.invokevirtual 144, 3) := by decide +kernel
theorem dX1_isLittleKnown_25 : decode cX1_isLittleKnown 25 = .ok (.ifCond .ne 5, 3) := by decide +kernel
theorem dX1_isLittleKnown_28 : decode cX1_isLittleKnown 28 = .ok (.iconst 1, 1) := by decide +kernel
theorem dX1_isLittleKnown_29 : decode cX1_isLittleKnown 29 = .ok (.ireturn, 1) := by decide +kernel
theorem dX1_isLittleKnown_30 : decode cX1_isLittleKnown 30 = .ok (.iinc 2 1, 3) := by decide +kernel
theorem dX1_isLittleKnown_33 : decode cX1_isLittleKnown 33 = .ok (.goto (-31), 3) := by decide +kernel
theorem dX1_isLittleKnown_36 : decode cX1_isLittleKnown 36 = .ok (.iconst 0, 1) := by decide +kernel
theorem dX1_isLittleKnown_37 : decode cX1_isLittleKnown 37 = .ok (.ireturn, 1) := by decide +kernel
theorem dX1_slow_0 : decode cX1_slow 0 = .ok (.iload_n 1, 1) := by decide +kernel
theorem dX1_slow_1 : decode cX1_slow 1 = .ok (.iconst 0, 1) := by decide +kernel
theorem dX1_slow_2 : decode cX1_slow 2 = .ok (.bipush 39, 2) := by decide +kernel
theorem dX1_slow_4 : decode cX1_slow 4 = .ok (.invokestatic 96, 3) := by decide +kernel
theorem dX1_slow_7 : decode cX1_slow 7 = .ok (.ifCond .ne 5, 3) := by decide +kernel
