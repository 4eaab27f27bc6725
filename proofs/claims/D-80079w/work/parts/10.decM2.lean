theorem d_M_isUnder_0 : decode b_M_isUnder 0 = .ok (.iload_n 1, 1) := by decide +kernel
theorem d_M_isUnder_1 : decode b_M_isUnder 1 = .ok (.istore_n 3, 1) := by decide +kernel
theorem d_M_isUnder_2 : decode b_M_isUnder 2 = .ok (.iload_n 3, 1) := by decide +kernel
theorem d_M_isUnder_3 : decode b_M_isUnder 3 = .ok (.ifCond .lt 18, 3) := by decide +kernel
theorem d_M_isUnder_6 : decode b_M_isUnder 6 = .ok (.iload_n 3, 1) := by decide +kernel
theorem d_M_isUnder_7 : decode b_M_isUnder 7 = .ok (.iload_n 2, 1) := by decide +kernel
theorem d_M_isUnder_8 : decode b_M_isUnder 8 = .ok (.if_icmp .eq 13, 3) := by decide +kernel
theorem d_M_isUnder_11 : decode b_M_isUnder 11 = .ok (.aload_n 0, 1) := by decide +kernel
theorem d_M_isUnder_12 : decode b_M_isUnder 12 = .ok (.getfield 7, 3) := by decide +kernel
theorem d_M_isUnder_15 : decode b_M_isUnder 15 = .ok (.iload_n 3, 1) := by decide +kernel
theorem d_M_isUnder_16 : decode b_M_isUnder 16 = .ok (.iaload, 1) := by decide +kernel
theorem d_M_isUnder_17 : decode b_M_isUnder 17 = .ok (.istore_n 3, 1) := by decide +kernel
theorem d_M_isUnder_18 : decode b_M_isUnder 18 = .ok (.goto (-16), 3) := by decide +kernel
theorem d_M_isUnder_21 : decode b_M_isUnder 21 = .ok (.iload_n 3, 1) := by decide +kernel
theorem d_M_isUnder_22 : decode b_M_isUnder 22 = .ok (.ifCond .lt 7, 3) := by decide +kernel
theorem d_M_isUnder_25 : decode b_M_isUnder 25 = .ok (.iconst 1, 1) := by decide +kernel
theorem d_M_isUnder_26 : decode b_M_isUnder 26 = .ok (.goto 4, 3) := by decide +kernel
theorem d_M_isUnder_29 : decode b_M_isUnder 29 = .ok (.iconst 0, 1) := by decide +kernel
theorem d_M_isUnder_30 : decode b_M_isUnder 30 = .ok (.ireturn, 1) := by decide +kernel
theorem d_M_isSame_0 : decode b_M_isSame 0 = .ok (.iconst 1, 1) := by decide +kernel
theorem d_M_isSame_1 : decode b_M_isSame 1 = .ok (.istore_n 1, 1) := by decide +kernel
theorem d_M_isSame_2 : decode b_M_isSame 2 = .ok (.iconst 0, 1) := by decide +kernel
theorem d_M_isSame_3 : decode b_M_isSame 3 = .ok (.istore_n 2, 1) := by decide +kernel
theorem d_M_isSame_4 : decode b_M_isSame 4 = .ok (.iload_n 2, 1) := by decide +kernel
theorem d_M_isSame_5 : decode b_M_isSame 5 = .ok (.sipush 1260, 3) := by decide +kernel
theorem d_M_isSame_8 : decode b_M_isSame 8 = .ok (.if_icmp .ge 34, 3) := by decide +kernel
theorem d_M_isSame_11 : decode b_M_isSame 11 = .ok (.iload_n 1, 1) := by decide +kernel
theorem d_M_isSame_12 : decode b_M_isSame 12 = .ok (.ifCond .eq 22, 3) := by decide +kernel
theorem d_M_isSame_15 : decode b_M_isSame 15 = .ok (.aload_n 0, 1) := by decide +kernel
theorem d_M_isSame_16 : decode b_M_isSame 16 = .ok (.getfield 52, 3) := by decide +kernel
theorem d_M_isSame_19 : decode b_M_isSame 19 = .ok (.iload_n 2, 1) := by decide +kernel
theorem d_M_isSame_20 : decode b_M_isSame 20 = .ok (.iaload, 1) := by decide +kernel
theorem d_M_isSame_21 : decode b_M_isSame 21 = .ok (.aload_n 0, 1) := by decide +kernel
theorem d_M_isSame_22 : decode b_M_isSame 22 = .ok (.getfield 49, 3) := by decide +kernel
theorem d_M_isSame_25 : decode b_M_isSame 25 = .ok (.iload_n 2, 1) := by decide +kernel
theorem d_M_isSame_26 : decode b_M_isSame 26 = .ok (.iaload, 1) := by decide +kernel
theorem d_M_isSame_27 : decode b_M_isSame 27 = .ok (.if_icmp .ne 7, 3) := by decide +kernel
theorem d_M_isSame_30 : decode b_M_isSame 30 = .ok (.iconst 1, 1) := by decide +kernel
theorem d_M_isSame_31 : decode b_M_isSame 31 = .ok (.goto 4, 3) := by decide +kernel
theorem d_M_isSame_34 : decode b_M_isSame 34 = .ok (.iconst 0, 1) := by decide +kernel
theorem d_M_isSame_35 : decode b_M_isSame 35 = .ok (.istore_n 1, 1) := by decide +kernel
theorem d_M_isSame_36 : decode b_M_isSame 36 = .ok (.iinc 2 1, 3) := by decide +kernel
theorem d_M_isSame_39 : decode b_M_isSame 39 = .ok (.goto (-35), 3) := by decide +kernel
theorem d_M_isSame_42 : decode b_M_isSame 42 = .ok (.iconst 0, 1) := by decide +kernel
theorem d_M_isSame_43 : decode b_M_isSame 43 = .ok (.istore_n 2, 1) := by decide +kernel
theorem d_M_isSame_44 : decode b_M_isSame 44 = .ok (.iload_n 2, 1) := by decide +kernel
theorem d_M_isSame_45 : decode b_M_isSame 45 = .ok (.sipush 160, 3) := by decide +kernel
theorem d_M_isSame_48 : decode b_M_isSame 48 = .ok (.if_icmp .ge 34, 3) := by decide +kernel
theorem d_M_isSame_51 : decode b_M_isSame 51 = .ok (.iload_n 1, 1) := by decide +kernel
theorem d_M_isSame_52 : decode b_M_isSame 52 = .ok (.ifCond .eq 22, 3) := by decide +kernel
theorem d_M_isSame_55 : decode b_M_isSame 55 = .ok (.aload_n 0, 1) := by decide +kernel
theorem d_M_isSame_56 : decode b_M_isSame 56 = .ok (.getfield 58, 3) := by decide +kernel
theorem d_M_isSame_59 : decode b_M_isSame 59 = .ok (.iload_n 2, 1) := by decide +kernel
theorem d_M_isSame_60 : decode b_M_isSame 60 = .ok (.iaload, 1) := by decide +kernel
theorem d_M_isSame_61 : decode b_M_isSame 61 = .ok (.aload_n 0, 1) := by decide +kernel
theorem d_M_isSame_62 : decode b_M_isSame 62 = .ok (.getfield 55, 3) := by decide +kernel
theorem d_M_isSame_65 : decode b_M_isSame 65 = .ok (.iload_n 2, 1) := by decide +kernel
theorem d_M_isSame_66 : decode b_M_isSame 66 = .ok (.iaload, 1) := by decide +kernel
theorem d_M_isSame_67 : decode b_M_isSame 67 = .ok (.if_icmp .ne 7, 3) := by decide +kernel
theorem d_M_isSame_70 : decode b_M_isSame 70 = .ok (.iconst 1, 1) := by decide +kernel
theorem d_M_isSame_71 : decode b_M_isSame 71 = .ok (.goto 4, 3) := by decide +kernel
theorem d_M_isSame_74 : decode b_M_isSame 74 = .ok (.iconst 0, 1) := by decide +kernel
theorem d_M_isSame_75 : decode b_M_isSame 75 = .ok (.istore_n 1, 1) := by decide +kernel
theorem d_M_isSame_76 : decode b_M_isSame 76 = .ok (.iinc 2 1, 3) := by decide +kernel
theorem d_M_isSame_79 : decode b_M_isSame 79 = .ok (.goto (-35), 3) := by decide +kernel
theorem d_M_isSame_82 : decode b_M_isSame 82 = .ok (.iconst 0, 1) := by decide +kernel
theorem d_M_isSame_83 : decode b_M_isSame 83 = .ok (.istore_n 2, 1) := by decide +kernel
theorem d_M_isSame_84 : decode b_M_isSame 84 = .ok (.iload_n 2, 1) := by decide +kernel
theorem d_M_isSame_85 : decode b_M_isSame 85 = .ok (.bipush 20, 2) := by decide +kernel
theorem d_M_isSame_87 : decode b_M_isSame 87 = .ok (.if_icmp .ge 34, 3) := by decide +kernel
theorem d_M_isSame_90 : decode b_M_isSame 90 = .ok (.iload_n 1, 1) := by decide +kernel
theorem d_M_isSame_91 : decode b_M_isSame 91 = .ok (.ifCond .eq 22, 3) := by decide +kernel
theorem d_M_isSame_94 : decode b_M_isSame 94 = .ok (.aload_n 0, 1) := by decide +kernel
theorem d_M_isSame_95 : decode b_M_isSame 95 = .ok (.getfield 64, 3) := by decide +kernel
theorem d_M_isSame_98 : decode b_M_isSame 98 = .ok (.iload_n 2, 1) := by decide +kernel
theorem d_M_isSame_99 : decode b_M_isSame 99 = .ok (.iaload, 1) := by decide +kernel
theorem d_M_isSame_100 : decode b_M_isSame 100 = .ok (.aload_n 0, 1) := by decide +kernel
theorem d_M_isSame_101 : decode b_M_isSame 101 = .ok (.getfield 61, 3) := by decide +kernel
theorem d_M_isSame_104 : decode b_M_isSame 104 = .ok (.iload_n 2, 1) := by decide +kernel
theorem d_M_isSame_105 : decode b_M_isSame 105 = .ok (.iaload, 1) := by decide +kernel
theorem d_M_isSame_106 : decode b_M_isSame 106 = .ok (.if_icmp .ne 7, 3) := by decide +kernel
theorem d_M_isSame_109 : decode b_M_isSame 109 = .ok (.iconst 1, 1) := by decide +kernel
theorem d_M_isSame_110 : decode b_M_isSame 110 = .ok (.goto 4, 3) := by decide +kernel
theorem d_M_isSame_113 : decode b_M_isSame 113 = .ok (.iconst 0, 1) := by decide +kernel
theorem d_M_isSame_114 : decode b_M_isSame 114 = .ok (.istore_n 1, 1) := by decide +kernel
theorem d_M_isSame_115 : decode b_M_isSame 115 = .ok (.iinc 2 1, 3) := by decide +kernel
theorem d_M_isSame_118 : decode b_M_isSame 118 = .ok (.goto (-34), 3) := by decide +kernel
theorem d_M_isSame_121 : decode b_M_isSame 121 = .ok (.iconst 0, 1) := by decide +kernel
theorem d_M_isSame_122 : decode b_M_isSame 122 = .ok (.istore_n 2, 1) := by decide +kernel
theorem d_M_isSame_123 : decode b_M_isSame 123 = .ok (.iload_n 2, 1) := by decide +kernel
theorem d_M_isSame_124 : decode b_M_isSame 124 = .ok (.iconst 4, 1) := by decide +kernel
theorem d_M_isSame_125 : decode b_M_isSame 125 = .ok (.if_icmp .ge 34, 3) := by decide +kernel
theorem d_M_isSame_128 : decode b_M_isSame 128 = .ok (.iload_n 1, 1) := by decide +kernel
theorem d_M_isSame_129 : decode b_M_isSame 129 = .ok (.ifCond .eq 22, 3) := by decide +kernel
theorem d_M_isSame_132 : decode b_M_isSame 132 = .ok (.aload_n 0, 1) := by decide +kernel
theorem d_M_isSame_133 : decode b_M_isSame 133 = .ok (.getfield 70, 3) := by decide +kernel
theorem d_M_isSame_136 : decode b_M_isSame 136 = .ok (.iload_n 2, 1) := by decide +kernel
theorem d_M_isSame_137 : decode b_M_isSame 137 = .ok (.iaload, 1) := by decide +kernel
theorem d_M_isSame_138 : decode b_M_isSame 138 = .ok (.aload_n 0, 1) := by decide +kernel
theorem d_M_isSame_139 : decode b_M_isSame 139 = .ok (.getfield 67, 3) := by decide +kernel
theorem d_M_isSame_142 : decode b_M_isSame 142 = .ok (.iload_n 2, 1) := by decide +kernel
theorem d_M_isSame_143 : decode b_M_isSame 143 = .ok (.iaload, 1) := by decide +kernel
theorem d_M_isSame_144 : decode b_M_isSame 144 = .ok (.if_icmp .ne 7, 3) := by decide +kernel
theorem d_M_isSame_147 : decode b_M_isSame 147 = .ok (.iconst 1, 1) := by decide +kernel
theorem d_M_isSame_148 : decode b_M_isSame 148 = .ok (.goto 4, 3) := by decide +kernel
theorem d_M_isSame_151 : decode b_M_isSame 151 = .ok (.iconst 0, 1) := by decide +kernel
theorem d_M_isSame_152 : decode b_M_isSame 152 = .ok (.istore_n 1, 1) := by decide +kernel
theorem d_M_isSame_153 : decode b_M_isSame 153 = .ok (.iinc 2 1, 3) := by decide +kernel
theorem d_M_isSame_156 : decode b_M_isSame 156 = .ok (.goto (-33), 3) := by decide +kernel
theorem d_M_isSame_159 : decode b_M_isSame 159 = .ok (.iconst 0, 1) := by decide +kernel
theorem d_M_isSame_160 : decode b_M_isSame 160 = .ok (.istore_n 2, 1) := by decide +kernel
theorem d_M_isSame_161 : decode b_M_isSame 161 = .ok (.iload_n 2, 1) := by decide +kernel
theorem d_M_isSame_162 : decode b_M_isSame 162 = .ok (.bipush 10, 2) := by decide +kernel
theorem d_M_isSame_164 : decode b_M_isSame 164 = .ok (.if_icmp .ge 34, 3) := by decide +kernel
theorem d_M_isSame_167 : decode b_M_isSame 167 = .ok (.iload_n 1, 1) := by decide +kernel
theorem d_M_isSame_168 : decode b_M_isSame 168 = .ok (.ifCond .eq 22, 3) := by decide +kernel
theorem d_M_isSame_171 : decode b_M_isSame 171 = .ok (.aload_n 0, 1) := by decide +kernel
theorem d_M_isSame_172 : decode b_M_isSame 172 = .ok (.getfield 76, 3) := by decide +kernel
theorem d_M_isSame_175 : decode b_M_isSame 175 = .ok (.iload_n 2, 1) := by decide +kernel
theorem d_M_isSame_176 : decode b_M_isSame 176 = .ok (.iaload, 1) := by decide +kernel
theorem d_M_isSame_177 : decode b_M_isSame 177 = .ok (.aload_n 0, 1) := by decide +kernel
theorem d_M_isSame_178 : decode b_M_isSame 178 = .ok (.getfield 73, 3) := by decide +kernel
theorem d_M_isSame_181 : decode b_M_isSame 181 = .ok (.iload_n 2, 1) := by decide +kernel
theorem d_M_isSame_182 : decode b_M_isSame 182 = .ok (.iaload, 1) := by decide +kernel
theorem d_M_isSame_183 : decode b_M_isSame 183 = .ok (.if_icmp .ne 7, 3) := by decide +kernel
theorem d_M_isSame_186 : decode b_M_isSame 186 = .ok (.iconst 1, 1) := by decide +kernel
theorem d_M_isSame_187 : decode b_M_isSame 187 = .ok (.goto 4, 3) := by decide +kernel
theorem d_M_isSame_190 : decode b_M_isSame 190 = .ok (.iconst 0, 1) := by decide +kernel
theorem d_M_isSame_191 : decode b_M_isSame 191 = .ok (.istore_n 1, 1) := by decide +kernel
theorem d_M_isSame_192 : decode b_M_isSame 192 = .ok (.iinc 2 1, 3) := by decide +kernel
theorem d_M_isSame_195 : decode b_M_isSame 195 = .ok (.goto (-34), 3) := by decide +kernel
theorem d_M_isSame_198 : decode b_M_isSame 198 = .ok (.iload_n 1, 1) := by decide +kernel
theorem d_M_isSame_199 : decode b_M_isSame 199 = .ok (.ireturn, 1) := by decide +kernel
theorem d_M_swap_0 : decode b_M_swap 0 = .ok (.iconst 0, 1) := by decide +kernel
theorem d_M_swap_1 : decode b_M_swap 1 = .ok (.istore_n 1, 1) := by decide +kernel
theorem d_M_swap_2 : decode b_M_swap 2 = .ok (.iload_n 1, 1) := by decide +kernel
theorem d_M_swap_3 : decode b_M_swap 3 = .ok (.sipush 1260, 3) := by decide +kernel
theorem d_M_swap_6 : decode b_M_swap 6 = .ok (.if_icmp .ge 21, 3) := by decide +kernel
theorem d_M_swap_9 : decode b_M_swap 9 = .ok (.aload_n 0, 1) := by decide +kernel
theorem d_M_swap_10 : decode b_M_swap 10 = .ok (.getfield 49, 3) := by decide +kernel
theorem d_M_swap_13 : decode b_M_swap 13 = .ok (.iload_n 1, 1) := by decide +kernel
theorem d_M_swap_14 : decode b_M_swap 14 = .ok (.aload_n 0, 1) := by decide +kernel
theorem d_M_swap_15 : decode b_M_swap 15 = .ok (.getfield 52, 3) := by decide +kernel
theorem d_M_swap_18 : decode b_M_swap 18 = .ok (.iload_n 1, 1) := by decide +kernel
theorem d_M_swap_19 : decode b_M_swap 19 = .ok (.iaload, 1) := by decide +kernel
theorem d_M_swap_20 : decode b_M_swap 20 = .ok (.iastore, 1) := by decide +kernel
theorem d_M_swap_21 : decode b_M_swap 21 = .ok (.iinc 1 1, 3) := by decide +kernel
theorem d_M_swap_24 : decode b_M_swap 24 = .ok (.goto (-22), 3) := by decide +kernel
theorem d_M_swap_27 : decode b_M_swap 27 = .ok (.iconst 0, 1) := by decide +kernel
theorem d_M_swap_28 : decode b_M_swap 28 = .ok (.istore_n 1, 1) := by decide +kernel
theorem d_M_swap_29 : decode b_M_swap 29 = .ok (.iload_n 1, 1) := by decide +kernel
theorem d_M_swap_30 : decode b_M_swap 30 = .ok (.sipush 160, 3) := by decide +kernel
theorem d_M_swap_33 : decode b_M_swap 33 = .ok (.if_icmp .ge 21, 3) := by decide +kernel
theorem d_M_swap_36 : decode b_M_swap 36 = .ok (.aload_n 0, 1) := by decide +kernel
theorem d_M_swap_37 : decode b_M_swap 37 = .ok (.getfield 55, 3) := by decide +kernel
theorem d_M_swap_40 : decode b_M_swap 40 = .ok (.iload_n 1, 1) := by decide +kernel
theorem d_M_swap_41 : decode b_M_swap 41 = .ok (.aload_n 0, 1) := by decide +kernel
theorem d_M_swap_42 : decode b_M_swap 42 = .ok (.getfield 58, 3) := by decide +kernel
theorem d_M_swap_45 : decode b_M_swap 45 = .ok (.iload_n 1, 1) := by decide +kernel
theorem d_M_swap_46 : decode b_M_swap 46 = .ok (.iaload, 1) := by decide +kernel
theorem d_M_swap_47 : decode b_M_swap 47 = .ok (.iastore, 1) := by decide +kernel
theorem d_M_swap_48 : decode b_M_swap 48 = .ok (.iinc 1 1, 3) := by decide +kernel
theorem d_M_swap_51 : decode b_M_swap 51 = .ok (.goto (-22), 3) := by decide +kernel
theorem d_M_swap_54 : decode b_M_swap 54 = .ok (.iconst 0, 1) := by decide +kernel
theorem d_M_swap_55 : decode b_M_swap 55 = .ok (.istore_n 1, 1) := by decide +kernel
theorem d_M_swap_56 : decode b_M_swap 56 = .ok (.iload_n 1, 1) := by decide +kernel
theorem d_M_swap_57 : decode b_M_swap 57 = .ok (.bipush 20, 2) := by decide +kernel
theorem d_M_swap_59 : decode b_M_swap 59 = .ok (.if_icmp .ge 21, 3) := by decide +kernel
theorem d_M_swap_62 : decode b_M_swap 62 = .ok (.aload_n 0, 1) := by decide +kernel
theorem d_M_swap_63 : decode b_M_swap 63 = .ok (.getfield 61, 3) := by decide +kernel
theorem d_M_swap_66 : decode b_M_swap 66 = .ok (.iload_n 1, 1) := by decide +kernel
theorem d_M_swap_67 : decode b_M_swap 67 = .ok (.aload_n 0, 1) := by decide +kernel
theorem d_M_swap_68 : decode b_M_swap 68 = .ok (.getfield 64, 3) := by decide +kernel
theorem d_M_swap_71 : decode b_M_swap 71 = .ok (.iload_n 1, 1) := by decide +kernel
theorem d_M_swap_72 : decode b_M_swap 72 = .ok (.iaload, 1) := by decide +kernel
theorem d_M_swap_73 : decode b_M_swap 73 = .ok (.iastore, 1) := by decide +kernel
theorem d_M_swap_74 : decode b_M_swap 74 = .ok (.iinc 1 1, 3) := by decide +kernel
theorem d_M_swap_77 : decode b_M_swap 77 = .ok (.goto (-21), 3) := by decide +kernel
theorem d_M_swap_80 : decode b_M_swap 80 = .ok (.iconst 0, 1) := by decide +kernel
theorem d_M_swap_81 : decode b_M_swap 81 = .ok (.istore_n 1, 1) := by decide +kernel
theorem d_M_swap_82 : decode b_M_swap 82 = .ok (.iload_n 1, 1) := by decide +kernel
theorem d_M_swap_83 : decode b_M_swap 83 = .ok (.iconst 4, 1) := by decide +kernel
theorem d_M_swap_84 : decode b_M_swap 84 = .ok (.if_icmp .ge 21, 3) := by decide +kernel
theorem d_M_swap_87 : decode b_M_swap 87 = .ok (.aload_n 0, 1) := by decide +kernel
theorem d_M_swap_88 : decode b_M_swap 88 = .ok (.getfield 67, 3) := by decide +kernel
theorem d_M_swap_91 : decode b_M_swap 91 = .ok (.iload_n 1, 1) := by decide +kernel
theorem d_M_swap_92 : decode b_M_swap 92 = .ok (.aload_n 0, 1) := by decide +kernel
theorem d_M_swap_93 : decode b_M_swap 93 = .ok (.getfield 70, 3) := by decide +kernel
theorem d_M_swap_96 : decode b_M_swap 96 = .ok (.iload_n 1, 1) := by decide +kernel
theorem d_M_swap_97 : decode b_M_swap 97 = .ok (.iaload, 1) := by decide +kernel
theorem d_M_swap_98 : decode b_M_swap 98 = .ok (.iastore, 1) := by decide +kernel
theorem d_M_swap_99 : decode b_M_swap 99 = .ok (.iinc 1 1, 3) := by decide +kernel
theorem d_M_swap_102 : decode b_M_swap 102 = .ok (.goto (-20), 3) := by decide +kernel
theorem d_M_swap_105 : decode b_M_swap 105 = .ok (.iconst 0, 1) := by decide +kernel
theorem d_M_swap_106 : decode b_M_swap 106 = .ok (.istore_n 1, 1) := by decide +kernel
theorem d_M_swap_107 : decode b_M_swap 107 = .ok (.iload_n 1, 1) := by decide +kernel
theorem d_M_swap_108 : decode b_M_swap 108 = .ok (.bipush 10, 2) := by decide +kernel
theorem d_M_swap_110 : decode b_M_swap 110 = .ok (.if_icmp .ge 21, 3) := by decide +kernel
theorem d_M_swap_113 : decode b_M_swap 113 = .ok (.aload_n 0, 1) := by decide +kernel
theorem d_M_swap_114 : decode b_M_swap 114 = .ok (.getfield 73, 3) := by decide +kernel
theorem d_M_swap_117 : decode b_M_swap 117 = .ok (.iload_n 1, 1) := by decide +kernel
theorem d_M_swap_118 : decode b_M_swap 118 = .ok (.aload_n 0, 1) := by decide +kernel
theorem d_M_swap_119 : decode b_M_swap 119 = .ok (.getfield 76, 3) := by decide +kernel
theorem d_M_swap_122 : decode b_M_swap 122 = .ok (.iload_n 1, 1) := by decide +kernel
theorem d_M_swap_123 : decode b_M_swap 123 = .ok (.iaload, 1) := by decide +kernel
theorem d_M_swap_124 : decode b_M_swap 124 = .ok (.iastore, 1) := by decide +kernel
theorem d_M_swap_125 : decode b_M_swap 125 = .ok (.iinc 1 1, 3) := by decide +kernel
theorem d_M_swap_128 : decode b_M_swap 128 = .ok (.goto (-21), 3) := by decide +kernel
theorem d_M_swap_131 : decode b_M_swap 131 = .ok (.return_, 1) := by decide +kernel
theorem d_M_note_0 : decode b_M_note 0 = .ok (.iconst 0, 1) := by decide +kernel
theorem d_M_note_1 : decode b_M_note 1 = .ok (.istore_n 2, 1) := by decide +kernel
theorem d_M_note_2 : decode b_M_note 2 = .ok (.iload_n 2, 1) := by decide +kernel
theorem d_M_note_3 : decode b_M_note 3 = .ok (.aload_n 0, 1) := by decide +kernel
theorem d_M_note_4 : decode b_M_note 4 = .ok (.getfield 116, 3) := by decide +kernel
theorem d_M_note_7 : decode b_M_note 7 = .ok (.if_icmp .ge 92, 3) := by decide +kernel
theorem d_M_note_10 : decode b_M_note 10 = .ok (.iconst 0, 1) := by decide +kernel
theorem d_M_note_11 : decode b_M_note 11 = .ok (.istore_n 3, 1) := by decide +kernel
theorem d_M_note_12 : decode b_M_note 12 = .ok (.iload_n 3, 1) := by decide +kernel
theorem d_M_note_13 : decode b_M_note 13 = .ok (.bipush 6, 2) := by decide +kernel
theorem d_M_note_15 : decode b_M_note 15 = .ok (.if_icmp .ge 78, 3) := by decide +kernel
theorem d_M_note_18 : decode b_M_note 18 = .ok (.aload_n 0, 1) := by decide +kernel
theorem d_M_note_19 : decode b_M_note 19 = .ok (.iload_n 2, 1) := by decide +kernel
theorem d_M_note_20 : decode b_M_note 20 = .ok (.iload_n 3, 1) := by decide +kernel
theorem d_M_note_21 : decode b_M_note 21 = .ok (.invokevirtual 183, 3) := by decide +kernel
theorem d_M_note_24 : decode b_M_note 24 = .ok (.istore 4, 2) := by decide +kernel
theorem d_M_note_26 : decode b_M_note 26 = .ok (.iconst 0, 1) := by decide +kernel
theorem d_M_note_27 : decode b_M_note 27 = .ok (.istore 5, 2) := by decide +kernel
theorem d_M_note_29 : decode b_M_note 29 = .ok (.iload 5, 2) := by decide +kernel
theorem d_M_note_31 : decode b_M_note 31 = .ok (.aload_n 0, 1) := by decide +kernel
theorem d_M_note_32 : decode b_M_note 32 = .ok (.getfield 160, 3) := by decide +kernel
theorem d_M_note_35 : decode b_M_note 35 = .ok (.if_icmp .ge 52, 3) := by decide +kernel
theorem d_M_note_38 : decode b_M_note 38 = .ok (.bipush 120, 2) := by decide +kernel
theorem d_M_note_40 : decode b_M_note 40 = .ok (.iload_n 2, 1) := by decide +kernel
theorem d_M_note_41 : decode b_M_note 41 = .ok (.imul, 1) := by decide +kernel
theorem d_M_note_42 : decode b_M_note 42 = .ok (.bipush 20, 2) := by decide +kernel
theorem d_M_note_44 : decode b_M_note 44 = .ok (.iload_n 3, 1) := by decide +kernel
theorem d_M_note_45 : decode b_M_note 45 = .ok (.imul, 1) := by decide +kernel
theorem d_M_note_46 : decode b_M_note 46 = .ok (.iadd, 1) := by decide +kernel
theorem d_M_note_47 : decode b_M_note 47 = .ok (.iload 5, 2) := by decide +kernel
theorem d_M_note_49 : decode b_M_note 49 = .ok (.iadd, 1) := by decide +kernel
theorem d_M_note_50 : decode b_M_note 50 = .ok (.istore 6, 2) := by decide +kernel
theorem d_M_note_52 : decode b_M_note 52 = .ok (.iload 4, 2) := by decide +kernel
theorem d_M_note_54 : decode b_M_note 54 = .ok (.iload 5, 2) := by decide +kernel
theorem d_M_note_56 : decode b_M_note 56 = .ok (.ishr, 1) := by decide +kernel
theorem d_M_note_57 : decode b_M_note 57 = .ok (.iconst 1, 1) := by decide +kernel
theorem d_M_note_58 : decode b_M_note 58 = .ok (.iand, 1) := by decide +kernel
theorem d_M_note_59 : decode b_M_note 59 = .ok (.iconst 1, 1) := by decide +kernel
theorem d_M_note_60 : decode b_M_note 60 = .ok (.if_icmp .ne 21, 3) := by decide +kernel
theorem d_M_note_63 : decode b_M_note 63 = .ok (.aload_n 0, 1) := by decide +kernel
theorem d_M_note_64 : decode b_M_note 64 = .ok (.getfield 79, 3) := by decide +kernel
theorem d_M_note_67 : decode b_M_note 67 = .ok (.iload 6, 2) := by decide +kernel
theorem d_M_note_69 : decode b_M_note 69 = .ok (.iaload, 1) := by decide +kernel
theorem d_M_note_70 : decode b_M_note 70 = .ok (.ifCond .ge 11, 3) := by decide +kernel
theorem d_M_note_73 : decode b_M_note 73 = .ok (.aload_n 0, 1) := by decide +kernel
theorem d_M_note_74 : decode b_M_note 74 = .ok (.getfield 79, 3) := by decide +kernel
theorem d_M_note_77 : decode b_M_note 77 = .ok (.iload 6, 2) := by decide +kernel
theorem d_M_note_79 : decode b_M_note 79 = .ok (.iload_n 1, 1) := by decide +kernel
theorem d_M_note_80 : decode b_M_note 80 = .ok (.iastore, 1) := by decide +kernel
theorem d_M_note_81 : decode b_M_note 81 = .ok (.iinc 5 1, 3) := by decide +kernel
theorem d_M_note_84 : decode b_M_note 84 = .ok (.goto (-55), 3) := by decide +kernel
theorem d_M_note_87 : decode b_M_note 87 = .ok (.iinc 3 1, 3) := by decide +kernel
theorem d_M_note_90 : decode b_M_note 90 = .ok (.goto (-78), 3) := by decide +kernel
theorem d_M_note_93 : decode b_M_note 93 = .ok (.iinc 2 1, 3) := by decide +kernel
theorem d_M_note_96 : decode b_M_note 96 = .ok (.goto (-94), 3) := by decide +kernel
theorem d_M_note_99 : decode b_M_note 99 = .ok (.return_, 1) := by decide +kernel
theorem d_M_allOf_0 : decode b_M_allOf 0 = .ok (.iconst 0, 1) := by decide +kernel
theorem d_M_allOf_1 : decode b_M_allOf 1 = .ok (.istore_n 3, 1) := by decide +kernel
theorem d_M_allOf_2 : decode b_M_allOf 2 = .ok (.iconst 0, 1) := by decide +kernel
theorem d_M_allOf_3 : decode b_M_allOf 3 = .ok (.istore 4, 2) := by decide +kernel
theorem d_M_allOf_5 : decode b_M_allOf 5 = .ok (.iload 4, 2) := by decide +kernel
theorem d_M_allOf_7 : decode b_M_allOf 7 = .ok (.bipush 21, 2) := by decide +kernel
theorem d_M_allOf_9 : decode b_M_allOf 9 = .ok (.if_icmp .ge 24, 3) := by decide +kernel
theorem d_M_allOf_12 : decode b_M_allOf 12 = .ok (.iload_n 3, 1) := by decide +kernel
theorem d_M_allOf_13 : decode b_M_allOf 13 = .ok (.aload_n 0, 1) := by decide +kernel
theorem d_M_allOf_14 : decode b_M_allOf 14 = .ok (.getfield 49, 3) := by decide +kernel
theorem d_M_allOf_17 : decode b_M_allOf 17 = .ok (.iload_n 1, 1) := by decide +kernel
theorem d_M_allOf_18 : decode b_M_allOf 18 = .ok (.iload 4, 2) := by decide +kernel
theorem d_M_allOf_20 : decode b_M_allOf 20 = .ok (.iload_n 2, 1) := by decide +kernel
theorem d_M_allOf_21 : decode b_M_allOf 21 = .ok (.invokestatic 166, 3) := by decide +kernel
theorem d_M_allOf_24 : decode b_M_allOf 24 = .ok (.iaload, 1) := by decide +kernel
theorem d_M_allOf_25 : decode b_M_allOf 25 = .ok (.ior, 1) := by decide +kernel
theorem d_M_allOf_26 : decode b_M_allOf 26 = .ok (.istore_n 3, 1) := by decide +kernel
theorem d_M_allOf_27 : decode b_M_allOf 27 = .ok (.iinc 4 1, 3) := by decide +kernel
theorem d_M_allOf_30 : decode b_M_allOf 30 = .ok (.goto (-25), 3) := by decide +kernel
theorem d_M_allOf_33 : decode b_M_allOf 33 = .ok (.iload_n 3, 1) := by decide +kernel
theorem d_M_allOf_34 : decode b_M_allOf 34 = .ok (.ireturn, 1) := by decide +kernel
theorem d_M_inField_0 : decode b_M_inField 0 = .ok (.aload_n 0, 1) := by decide +kernel
theorem d_M_inField_1 : decode b_M_inField 1 = .ok (.iload_n 1, 1) := by decide +kernel
theorem d_M_inField_2 : decode b_M_inField 2 = .ok (.invokevirtual 216, 3) := by decide +kernel
theorem d_M_inField_5 : decode b_M_inField 5 = .ok (.ifCond .eq 11, 3) := by decide +kernel
theorem d_M_inField_8 : decode b_M_inField 8 = .ok (.aload_n 0, 1) := by decide +kernel
theorem d_M_inField_9 : decode b_M_inField 9 = .ok (.iload_n 2, 1) := by decide +kernel
theorem d_M_inField_10 : decode b_M_inField 10 = .ok (.invokevirtual 144, 3) := by decide +kernel
theorem d_M_inField_13 : decode b_M_inField 13 = .ok (.ifCond .ne 5, 3) := by decide +kernel
theorem d_M_inField_16 : decode b_M_inField 16 = .ok (.iconst (-1), 1) := by decide +kernel
theorem d_M_inField_17 : decode b_M_inField 17 = .ok (.ireturn, 1) := by decide +kernel
theorem d_M_inField_18 : decode b_M_inField 18 = .ok (.aload_n 0, 1) := by decide +kernel
theorem d_M_inField_19 : decode b_M_inField 19 = .ok (.invokevirtual 213, 3) := by decide +kernel
theorem d_M_inField_22 : decode b_M_inField 22 = .ok (.aload_n 0, 1) := by decide +kernel
theorem d_M_inField_23 : decode b_M_inField 23 = .ok (.getfield 55, 3) := by decide +kernel
theorem d_M_inField_26 : decode b_M_inField 26 = .ok (.bipush 8, 2) := by decide +kernel
theorem d_M_inField_28 : decode b_M_inField 28 = .ok (.iload_n 1, 1) := by decide +kernel
theorem d_M_inField_29 : decode b_M_inField 29 = .ok (.imul, 1) := by decide +kernel
theorem d_M_inField_30 : decode b_M_inField 30 = .ok (.iload_n 2, 1) := by decide +kernel
theorem d_M_inField_31 : decode b_M_inField 31 = .ok (.iadd, 1) := by decide +kernel
theorem d_M_inField_32 : decode b_M_inField 32 = .ok (.iaload, 1) := by decide +kernel
theorem d_M_inField_33 : decode b_M_inField 33 = .ok (.ireturn, 1) := by decide +kernel
theorem d_M_isSite_0 : decode b_M_isSite 0 = .ok (.iload_n 1, 1) := by decide +kernel
theorem d_M_isSite_1 : decode b_M_isSite 1 = .ok (.ifCond .lt 15, 3) := by decide +kernel
theorem d_M_isSite_4 : decode b_M_isSite 4 = .ok (.iload_n 1, 1) := by decide +kernel
theorem d_M_isSite_5 : decode b_M_isSite 5 = .ok (.aload_n 0, 1) := by decide +kernel
theorem d_M_isSite_6 : decode b_M_isSite 6 = .ok (.getfield 160, 3) := by decide +kernel
theorem d_M_isSite_9 : decode b_M_isSite 9 = .ok (.if_icmp .ge 7, 3) := by decide +kernel
theorem d_M_isSite_12 : decode b_M_isSite 12 = .ok (.iconst 1, 1) := by decide +kernel
theorem d_M_isSite_13 : decode b_M_isSite 13 = .ok (.goto 4, 3) := by decide +kernel
theorem d_M_isSite_16 : decode b_M_isSite 16 = .ok (.iconst 0, 1) := by decide +kernel
theorem d_M_isSite_17 : decode b_M_isSite 17 = .ok (.ireturn, 1) := by decide +kernel
theorem d_M_element_0 : decode b_M_element 0 = .ok (.aload_n 0, 1) := by decide +kernel
theorem d_M_element_1 : decode b_M_element 1 = .ok (.iload_n 1, 1) := by decide +kernel
theorem d_M_element_2 : decode b_M_element 2 = .ok (.invokevirtual 216, 3) := by decide +kernel
theorem d_M_element_5 : decode b_M_element 5 = .ok (.ifCond .ne 5, 3) := by decide +kernel
theorem d_M_element_8 : decode b_M_element 8 = .ok (.iconst (-1), 1) := by decide +kernel
theorem d_M_element_9 : decode b_M_element 9 = .ok (.ireturn, 1) := by decide +kernel
theorem d_M_element_10 : decode b_M_element 10 = .ok (.aload_n 0, 1) := by decide +kernel
theorem d_M_element_11 : decode b_M_element 11 = .ok (.invokevirtual 213, 3) := by decide +kernel
theorem d_M_element_14 : decode b_M_element 14 = .ok (.aload_n 0, 1) := by decide +kernel
theorem d_M_element_15 : decode b_M_element 15 = .ok (.getfield 61, 3) := by decide +kernel
theorem d_M_element_18 : decode b_M_element 18 = .ok (.iload_n 1, 1) := by decide +kernel
theorem d_M_element_19 : decode b_M_element 19 = .ok (.iaload, 1) := by decide +kernel
theorem d_M_element_20 : decode b_M_element 20 = .ok (.ireturn, 1) := by decide +kernel
theorem d_M_inStatic_0 : decode b_M_inStatic 0 = .ok (.iload_n 1, 1) := by decide +kernel
theorem d_M_inStatic_1 : decode b_M_inStatic 1 = .ok (.invokestatic 147, 3) := by decide +kernel
theorem d_M_inStatic_4 : decode b_M_inStatic 4 = .ok (.ifCond .ne 5, 3) := by decide +kernel
theorem d_M_inStatic_7 : decode b_M_inStatic 7 = .ok (.iconst (-1), 1) := by decide +kernel
theorem d_M_inStatic_8 : decode b_M_inStatic 8 = .ok (.ireturn, 1) := by decide +kernel
theorem d_M_inStatic_9 : decode b_M_inStatic 9 = .ok (.aload_n 0, 1) := by decide +kernel
theorem d_M_inStatic_10 : decode b_M_inStatic 10 = .ok (.invokevirtual 213, 3) := by decide +kernel
theorem d_M_inStatic_13 : decode b_M_inStatic 13 = .ok (.aload_n 0, 1) := by decide +kernel
theorem d_M_inStatic_14 : decode b_M_inStatic 14 = .ok (.getfield 67, 3) := by decide +kernel
theorem d_M_inStatic_17 : decode b_M_inStatic 17 = .ok (.iload_n 1, 1) := by decide +kernel
theorem d_M_inStatic_18 : decode b_M_inStatic 18 = .ok (.iaload, 1) := by decide +kernel
theorem d_M_inStatic_19 : decode b_M_inStatic 19 = .ok (.ireturn, 1) := by decide +kernel
theorem d_M_reached_0 : decode b_M_reached 0 = .ok (.aload_n 0, 1) := by decide +kernel
theorem d_M_reached_1 : decode b_M_reached 1 = .ok (.iload_n 1, 1) := by decide +kernel
theorem d_M_reached_2 : decode b_M_reached 2 = .ok (.invokevirtual 150, 3) := by decide +kernel
theorem d_M_reached_5 : decode b_M_reached 5 = .ok (.ifCond .ne 5, 3) := by decide +kernel
theorem d_M_reached_8 : decode b_M_reached 8 = .ok (.iconst (-1), 1) := by decide +kernel
theorem d_M_reached_9 : decode b_M_reached 9 = .ok (.ireturn, 1) := by decide +kernel
theorem d_M_reached_10 : decode b_M_reached 10 = .ok (.aload_n 0, 1) := by decide +kernel
theorem d_M_reached_11 : decode b_M_reached 11 = .ok (.invokevirtual 213, 3) := by decide +kernel
theorem d_M_reached_14 : decode b_M_reached 14 = .ok (.iconst 0, 1) := by decide +kernel
theorem d_M_reached_15 : decode b_M_reached 15 = .ok (.istore_n 2, 1) := by decide +kernel
theorem d_M_reached_16 : decode b_M_reached 16 = .ok (.iconst 0, 1) := by decide +kernel
theorem d_M_reached_17 : decode b_M_reached 17 = .ok (.istore_n 3, 1) := by decide +kernel
theorem d_M_reached_18 : decode b_M_reached 18 = .ok (.iload_n 3, 1) := by decide +kernel
theorem d_M_reached_19 : decode b_M_reached 19 = .ok (.bipush 21, 2) := by decide +kernel
theorem d_M_reached_21 : decode b_M_reached 21 = .ok (.if_icmp .ge 22, 3) := by decide +kernel
theorem d_M_reached_24 : decode b_M_reached 24 = .ok (.iload_n 2, 1) := by decide +kernel
theorem d_M_reached_25 : decode b_M_reached 25 = .ok (.aload_n 0, 1) := by decide +kernel
theorem d_M_reached_26 : decode b_M_reached 26 = .ok (.getfield 73, 3) := by decide +kernel
theorem d_M_reached_29 : decode b_M_reached 29 = .ok (.iload_n 1, 1) := by decide +kernel
theorem d_M_reached_30 : decode b_M_reached 30 = .ok (.iaload, 1) := by decide +kernel
theorem d_M_reached_31 : decode b_M_reached 31 = .ok (.iload_n 3, 1) := by decide +kernel
theorem d_M_reached_32 : decode b_M_reached 32 = .ok (.ishr, 1) := by decide +kernel
theorem d_M_reached_33 : decode b_M_reached 33 = .ok (.iconst 1, 1) := by decide +kernel
theorem d_M_reached_34 : decode b_M_reached 34 = .ok (.iand, 1) := by decide +kernel
theorem d_M_reached_35 : decode b_M_reached 35 = .ok (.iadd, 1) := by decide +kernel
theorem d_M_reached_36 : decode b_M_reached 36 = .ok (.istore_n 2, 1) := by decide +kernel
theorem d_M_reached_37 : decode b_M_reached 37 = .ok (.iinc 3 1, 3) := by decide +kernel
theorem d_M_reached_40 : decode b_M_reached 40 = .ok (.goto (-22), 3) := by decide +kernel
theorem d_M_reached_43 : decode b_M_reached 43 = .ok (.iload_n 2, 1) := by decide +kernel
theorem d_M_reached_44 : decode b_M_reached 44 = .ok (.ireturn, 1) := by decide +kernel
theorem d_M_may_0 : decode b_M_may 0 = .ok (.iload_n 1, 1) := by decide +kernel
theorem d_M_may_1 : decode b_M_may 1 = .ok (.ifCond .lt 11, 3) := by decide +kernel
theorem d_M_may_4 : decode b_M_may 4 = .ok (.iload_n 1, 1) := by decide +kernel
theorem d_M_may_5 : decode b_M_may 5 = .ok (.aload_n 0, 1) := by decide +kernel
theorem d_M_may_6 : decode b_M_may 6 = .ok (.getfield 157, 3) := by decide +kernel
theorem d_M_may_9 : decode b_M_may 9 = .ok (.if_icmp .lt 5, 3) := by decide +kernel
theorem d_M_may_12 : decode b_M_may 12 = .ok (.iconst (-1), 1) := by decide +kernel
theorem d_M_may_13 : decode b_M_may 13 = .ok (.ireturn, 1) := by decide +kernel
theorem d_M_may_14 : decode b_M_may 14 = .ok (.aload_n 0, 1) := by decide +kernel
theorem d_M_may_15 : decode b_M_may 15 = .ok (.getfield 25, 3) := by decide +kernel
theorem d_M_may_18 : decode b_M_may 18 = .ok (.iload_n 1, 1) := by decide +kernel
theorem d_M_may_19 : decode b_M_may 19 = .ok (.iaload, 1) := by decide +kernel
theorem d_M_may_20 : decode b_M_may 20 = .ok (.iconst 4, 1) := by decide +kernel
theorem d_M_may_21 : decode b_M_may 21 = .ok (.if_icmp .eq 17, 3) := by decide +kernel
theorem d_M_may_24 : decode b_M_may 24 = .ok (.aload_n 0, 1) := by decide +kernel
theorem d_M_may_25 : decode b_M_may 25 = .ok (.getfield 25, 3) := by decide +kernel
theorem d_M_may_28 : decode b_M_may 28 = .ok (.iload_n 1, 1) := by decide +kernel
theorem d_M_may_29 : decode b_M_may 29 = .ok (.iaload, 1) := by decide +kernel
theorem d_M_may_30 : decode b_M_may 30 = .ok (.bipush 7, 2) := by decide +kernel
theorem d_M_may_32 : decode b_M_may 32 = .ok (.if_icmp .eq 6, 3) := by decide +kernel
theorem d_M_may_35 : decode b_M_may 35 = .ok (.bipush (-3), 2) := by decide +kernel
theorem d_M_may_37 : decode b_M_may 37 = .ok (.ireturn, 1) := by decide +kernel
theorem d_M_may_38 : decode b_M_may 38 = .ok (.aload_n 0, 1) := by decide +kernel
theorem d_M_may_39 : decode b_M_may 39 = .ok (.invokevirtual 213, 3) := by decide +kernel
theorem d_M_may_42 : decode b_M_may 42 = .ok (.aload_n 0, 1) := by decide +kernel
theorem d_M_may_43 : decode b_M_may 43 = .ok (.aload_n 0, 1) := by decide +kernel
theorem d_M_may_44 : decode b_M_may 44 = .ok (.getfield 22, 3) := by decide +kernel
theorem d_M_may_47 : decode b_M_may 47 = .ok (.iload_n 1, 1) := by decide +kernel
theorem d_M_may_48 : decode b_M_may 48 = .ok (.iaload, 1) := by decide +kernel
theorem d_M_may_49 : decode b_M_may 49 = .ok (.aload_n 0, 1) := by decide +kernel
theorem d_M_may_50 : decode b_M_may 50 = .ok (.getfield 31, 3) := by decide +kernel
theorem d_M_may_53 : decode b_M_may 53 = .ok (.iload_n 1, 1) := by decide +kernel
theorem d_M_may_54 : decode b_M_may 54 = .ok (.iaload, 1) := by decide +kernel
theorem d_M_may_55 : decode b_M_may 55 = .ok (.invokevirtual 183, 3) := by decide +kernel
theorem d_M_may_58 : decode b_M_may 58 = .ok (.istore_n 2, 1) := by decide +kernel
theorem d_M_may_59 : decode b_M_may 59 = .ok (.iconst 0, 1) := by decide +kernel
theorem d_M_may_60 : decode b_M_may 60 = .ok (.istore_n 3, 1) := by decide +kernel
theorem d_M_may_61 : decode b_M_may 61 = .ok (.iconst 0, 1) := by decide +kernel
theorem d_M_may_62 : decode b_M_may 62 = .ok (.istore 4, 2) := by decide +kernel
theorem d_M_may_64 : decode b_M_may 64 = .ok (.iload 4, 2) := by decide +kernel
theorem d_M_may_66 : decode b_M_may 66 = .ok (.aload_n 0, 1) := by decide +kernel
theorem d_M_may_67 : decode b_M_may 67 = .ok (.getfield 160, 3) := by decide +kernel
theorem d_M_may_70 : decode b_M_may 70 = .ok (.if_icmp .ge 100, 3) := by decide +kernel
theorem d_M_may_73 : decode b_M_may 73 = .ok (.iload_n 2, 1) := by decide +kernel
theorem d_M_may_74 : decode b_M_may 74 = .ok (.iload 4, 2) := by decide +kernel
theorem d_M_may_76 : decode b_M_may 76 = .ok (.ishr, 1) := by decide +kernel
theorem d_M_may_77 : decode b_M_may 77 = .ok (.iconst 1, 1) := by decide +kernel
theorem d_M_may_78 : decode b_M_may 78 = .ok (.iand, 1) := by decide +kernel
theorem d_M_may_79 : decode b_M_may 79 = .ok (.ifCond .ne 6, 3) := by decide +kernel
theorem d_M_may_82 : decode b_M_may 82 = .ok (.goto 82, 3) := by decide +kernel
theorem d_M_may_85 : decode b_M_may 85 = .ok (.aload_n 0, 1) := by decide +kernel
theorem d_M_may_86 : decode b_M_may 86 = .ok (.getfield 25, 3) := by decide +kernel
theorem d_M_may_89 : decode b_M_may 89 = .ok (.iload_n 1, 1) := by decide +kernel
theorem d_M_may_90 : decode b_M_may 90 = .ok (.iaload, 1) := by decide +kernel
theorem d_M_may_91 : decode b_M_may 91 = .ok (.iconst 4, 1) := by decide +kernel
theorem d_M_may_92 : decode b_M_may 92 = .ok (.if_icmp .ne 37, 3) := by decide +kernel
theorem d_M_may_95 : decode b_M_may 95 = .ok (.iload_n 3, 1) := by decide +kernel
theorem d_M_may_96 : decode b_M_may 96 = .ok (.aload_n 0, 1) := by decide +kernel
theorem d_M_may_97 : decode b_M_may 97 = .ok (.aload_n 0, 1) := by decide +kernel
theorem d_M_may_98 : decode b_M_may 98 = .ok (.getfield 46, 3) := by decide +kernel
theorem d_M_may_101 : decode b_M_may 101 = .ok (.iload 4, 2) := by decide +kernel
theorem d_M_may_103 : decode b_M_may 103 = .ok (.iaload, 1) := by decide +kernel
theorem d_M_may_104 : decode b_M_may 104 = .ok (.aload_n 0, 1) := by decide +kernel
theorem d_M_may_105 : decode b_M_may 105 = .ok (.getfield 34, 3) := by decide +kernel
theorem d_M_may_108 : decode b_M_may 108 = .ok (.iload_n 1, 1) := by decide +kernel
theorem d_M_may_109 : decode b_M_may 109 = .ok (.iaload, 1) := by decide +kernel
theorem d_M_may_110 : decode b_M_may 110 = .ok (.invokevirtual 119, 3) := by decide +kernel
theorem d_M_may_113 : decode b_M_may 113 = .ok (.ifCond .eq 7, 3) := by decide +kernel
theorem d_M_may_116 : decode b_M_may 116 = .ok (.iconst 0, 1) := by decide +kernel
theorem d_M_may_117 : decode b_M_may 117 = .ok (.goto 7, 3) := by decide +kernel
theorem d_M_may_120 : decode b_M_may 120 = .ok (.iconst 1, 1) := by decide +kernel
theorem d_M_may_121 : decode b_M_may 121 = .ok (.iload 4, 2) := by decide +kernel
theorem d_M_may_123 : decode b_M_may 123 = .ok (.ishl, 1) := by decide +kernel
theorem d_M_may_124 : decode b_M_may 124 = .ok (.ior, 1) := by decide +kernel
theorem d_M_may_125 : decode b_M_may 125 = .ok (.istore_n 3, 1) := by decide +kernel
theorem d_M_may_126 : decode b_M_may 126 = .ok (.goto 38, 3) := by decide +kernel
theorem d_M_may_129 : decode b_M_may 129 = .ok (.aload_n 0, 1) := by decide +kernel
theorem d_M_may_130 : decode b_M_may 130 = .ok (.aload_n 0, 1) := by decide +kernel
theorem d_M_may_131 : decode b_M_may 131 = .ok (.getfield 46, 3) := by decide +kernel
theorem d_M_may_134 : decode b_M_may 134 = .ok (.iload 4, 2) := by decide +kernel
theorem d_M_may_136 : decode b_M_may 136 = .ok (.iaload, 1) := by decide +kernel
theorem d_M_may_137 : decode b_M_may 137 = .ok (.aload_n 0, 1) := by decide +kernel
theorem d_M_may_138 : decode b_M_may 138 = .ok (.getfield 34, 3) := by decide +kernel
theorem d_M_may_141 : decode b_M_may 141 = .ok (.iload_n 1, 1) := by decide +kernel
theorem d_M_may_142 : decode b_M_may 142 = .ok (.iaload, 1) := by decide +kernel
theorem d_M_may_143 : decode b_M_may 143 = .ok (.invokevirtual 180, 3) := by decide +kernel
theorem d_M_may_146 : decode b_M_may 146 = .ok (.istore 5, 2) := by decide +kernel
theorem d_M_may_148 : decode b_M_may 148 = .ok (.iload_n 3, 1) := by decide +kernel
theorem d_M_may_149 : decode b_M_may 149 = .ok (.iload 5, 2) := by decide +kernel
theorem d_M_may_151 : decode b_M_may 151 = .ok (.ifCond .ge 7, 3) := by decide +kernel
theorem d_M_may_154 : decode b_M_may 154 = .ok (.iconst 0, 1) := by decide +kernel
theorem d_M_may_155 : decode b_M_may 155 = .ok (.goto 7, 3) := by decide +kernel
theorem d_M_may_158 : decode b_M_may 158 = .ok (.iconst 1, 1) := by decide +kernel
theorem d_M_may_159 : decode b_M_may 159 = .ok (.iload 5, 2) := by decide +kernel
theorem d_M_may_161 : decode b_M_may 161 = .ok (.ishl, 1) := by decide +kernel
theorem d_M_may_162 : decode b_M_may 162 = .ok (.ior, 1) := by decide +kernel
theorem d_M_may_163 : decode b_M_may 163 = .ok (.istore_n 3, 1) := by decide +kernel
theorem d_M_may_164 : decode b_M_may 164 = .ok (.iinc 4 1, 3) := by decide +kernel
theorem d_M_may_167 : decode b_M_may 167 = .ok (.goto (-103), 3) := by decide +kernel
theorem d_M_may_170 : decode b_M_may 170 = .ok (.iload_n 3, 1) := by decide +kernel
theorem d_M_may_171 : decode b_M_may 171 = .ok (.ireturn, 1) := by decide +kernel
theorem d_M_alias_0 : decode b_M_alias 0 = .ok (.aload_n 0, 1) := by decide +kernel
theorem d_M_alias_1 : decode b_M_alias 1 = .ok (.iload_n 1, 1) := by decide +kernel
theorem d_M_alias_2 : decode b_M_alias 2 = .ok (.invokevirtual 150, 3) := by decide +kernel
theorem d_M_alias_5 : decode b_M_alias 5 = .ok (.ifCond .eq 26, 3) := by decide +kernel
theorem d_M_alias_8 : decode b_M_alias 8 = .ok (.iload_n 2, 1) := by decide +kernel
theorem d_M_alias_9 : decode b_M_alias 9 = .ok (.invokestatic 141, 3) := by decide +kernel
theorem d_M_alias_12 : decode b_M_alias 12 = .ok (.ifCond .eq 19, 3) := by decide +kernel
theorem d_M_alias_15 : decode b_M_alias 15 = .ok (.aload_n 0, 1) := by decide +kernel
theorem d_M_alias_16 : decode b_M_alias 16 = .ok (.iload_n 3, 1) := by decide +kernel
theorem d_M_alias_17 : decode b_M_alias 17 = .ok (.invokevirtual 150, 3) := by decide +kernel
theorem d_M_alias_20 : decode b_M_alias 20 = .ok (.ifCond .eq 11, 3) := by decide +kernel
theorem d_M_alias_23 : decode b_M_alias 23 = .ok (.iload 4, 2) := by decide +kernel
theorem d_M_alias_25 : decode b_M_alias 25 = .ok (.invokestatic 141, 3) := by decide +kernel
theorem d_M_alias_28 : decode b_M_alias 28 = .ok (.ifCond .ne 5, 3) := by decide +kernel
theorem d_M_alias_31 : decode b_M_alias 31 = .ok (.iconst (-1), 1) := by decide +kernel
theorem d_M_alias_32 : decode b_M_alias 32 = .ok (.ireturn, 1) := by decide +kernel
theorem d_M_alias_33 : decode b_M_alias 33 = .ok (.aload_n 0, 1) := by decide +kernel
theorem d_M_alias_34 : decode b_M_alias 34 = .ok (.invokevirtual 213, 3) := by decide +kernel
theorem d_M_alias_37 : decode b_M_alias 37 = .ok (.aload_n 0, 1) := by decide +kernel
theorem d_M_alias_38 : decode b_M_alias 38 = .ok (.iload_n 1, 1) := by decide +kernel
theorem d_M_alias_39 : decode b_M_alias 39 = .ok (.iload_n 2, 1) := by decide +kernel
theorem d_M_alias_40 : decode b_M_alias 40 = .ok (.invokevirtual 183, 3) := by decide +kernel
theorem d_M_alias_43 : decode b_M_alias 43 = .ok (.aload_n 0, 1) := by decide +kernel
theorem d_M_alias_44 : decode b_M_alias 44 = .ok (.iload_n 3, 1) := by decide +kernel
theorem d_M_alias_45 : decode b_M_alias 45 = .ok (.iload 4, 2) := by decide +kernel
theorem d_M_alias_47 : decode b_M_alias 47 = .ok (.invokevirtual 183, 3) := by decide +kernel
theorem d_M_alias_50 : decode b_M_alias 50 = .ok (.iand, 1) := by decide +kernel
theorem d_M_alias_51 : decode b_M_alias 51 = .ok (.ifCond .eq 7, 3) := by decide +kernel
theorem d_M_alias_54 : decode b_M_alias 54 = .ok (.iconst 1, 1) := by decide +kernel
theorem d_M_alias_55 : decode b_M_alias 55 = .ok (.goto 4, 3) := by decide +kernel
theorem d_M_alias_58 : decode b_M_alias 58 = .ok (.iconst 0, 1) := by decide +kernel
theorem d_M_alias_59 : decode b_M_alias 59 = .ok (.ireturn, 1) := by decide +kernel
theorem d_M_rounds_0 : decode b_M_rounds 0 = .ok (.aload_n 0, 1) := by decide +kernel
theorem d_M_rounds_1 : decode b_M_rounds 1 = .ok (.invokevirtual 213, 3) := by decide +kernel
theorem d_M_rounds_4 : decode b_M_rounds 4 = .ok (.aload_n 0, 1) := by decide +kernel
theorem d_M_rounds_5 : decode b_M_rounds 5 = .ok (.getfield 189, 3) := by decide +kernel
theorem d_M_rounds_8 : decode b_M_rounds 8 = .ok (.ireturn, 1) := by decide +kernel
theorem d_M_when_0 : decode b_M_when 0 = .ok (.aload_n 0, 1) := by decide +kernel
theorem d_M_when_1 : decode b_M_when 1 = .ok (.iload_n 1, 1) := by decide +kernel
theorem d_M_when_2 : decode b_M_when 2 = .ok (.invokevirtual 150, 3) := by decide +kernel
theorem d_M_when_5 : decode b_M_when 5 = .ok (.ifCond .eq 18, 3) := by decide +kernel
theorem d_M_when_8 : decode b_M_when 8 = .ok (.iload_n 2, 1) := by decide +kernel
theorem d_M_when_9 : decode b_M_when 9 = .ok (.invokestatic 141, 3) := by decide +kernel
theorem d_M_when_12 : decode b_M_when 12 = .ok (.ifCond .eq 11, 3) := by decide +kernel
theorem d_M_when_15 : decode b_M_when 15 = .ok (.aload_n 0, 1) := by decide +kernel
theorem d_M_when_16 : decode b_M_when 16 = .ok (.iload_n 3, 1) := by decide +kernel
theorem d_M_when_17 : decode b_M_when 17 = .ok (.invokevirtual 216, 3) := by decide +kernel
theorem d_M_when_20 : decode b_M_when 20 = .ok (.ifCond .ne 5, 3) := by decide +kernel
theorem d_M_when_23 : decode b_M_when 23 = .ok (.iconst (-1), 1) := by decide +kernel
theorem d_M_when_24 : decode b_M_when 24 = .ok (.ireturn, 1) := by decide +kernel
theorem d_M_when_25 : decode b_M_when 25 = .ok (.aload_n 0, 1) := by decide +kernel
theorem d_M_when_26 : decode b_M_when 26 = .ok (.invokevirtual 213, 3) := by decide +kernel
theorem d_M_when_29 : decode b_M_when 29 = .ok (.aload_n 0, 1) := by decide +kernel
theorem d_M_when_30 : decode b_M_when 30 = .ok (.getfield 79, 3) := by decide +kernel
theorem d_M_when_33 : decode b_M_when 33 = .ok (.bipush 120, 2) := by decide +kernel
theorem d_M_when_35 : decode b_M_when 35 = .ok (.iload_n 1, 1) := by decide +kernel
theorem d_M_when_36 : decode b_M_when 36 = .ok (.imul, 1) := by decide +kernel
theorem d_M_when_37 : decode b_M_when 37 = .ok (.bipush 20, 2) := by decide +kernel
theorem d_M_when_39 : decode b_M_when 39 = .ok (.iload_n 2, 1) := by decide +kernel
theorem d_M_when_40 : decode b_M_when 40 = .ok (.imul, 1) := by decide +kernel
theorem d_M_when_41 : decode b_M_when 41 = .ok (.iadd, 1) := by decide +kernel
theorem d_M_when_42 : decode b_M_when 42 = .ok (.iload_n 3, 1) := by decide +kernel
theorem d_M_when_43 : decode b_M_when 43 = .ok (.iadd, 1) := by decide +kernel
theorem d_M_when_44 : decode b_M_when 44 = .ok (.iaload, 1) := by decide +kernel
theorem d_M_when_45 : decode b_M_when 45 = .ok (.istore 4, 2) := by decide +kernel
theorem d_M_when_47 : decode b_M_when 47 = .ok (.iload 4, 2) := by decide +kernel
theorem d_M_when_49 : decode b_M_when 49 = .ok (.ifCond .ge 8, 3) := by decide +kernel
theorem d_M_when_52 : decode b_M_when 52 = .ok (.bipush (-3), 2) := by decide +kernel
theorem d_M_when_54 : decode b_M_when 54 = .ok (.goto 5, 3) := by decide +kernel
theorem d_M_when_57 : decode b_M_when 57 = .ok (.iload 4, 2) := by decide +kernel
theorem d_M_when_59 : decode b_M_when 59 = .ok (.ireturn, 1) := by decide +kernel
theorem d_M_run_0 : decode b_M_run 0 = .ok (.iload_n 2, 1) := by decide +kernel
theorem d_M_run_1 : decode b_M_run 1 = .ok (.ifCond .lt 10, 3) := by decide +kernel
theorem d_M_run_4 : decode b_M_run 4 = .ok (.iload_n 2, 1) := by decide +kernel
theorem d_M_run_5 : decode b_M_run 5 = .ok (.sipush 300, 3) := by decide +kernel
theorem d_M_run_8 : decode b_M_run 8 = .ok (.if_icmp .le 6, 3) := by decide +kernel
theorem d_M_run_11 : decode b_M_run 11 = .ok (.bipush (-2), 2) := by decide +kernel
theorem d_M_run_13 : decode b_M_run 13 = .ok (.ireturn, 1) := by decide +kernel
theorem d_M_run_14 : decode b_M_run 14 = .ok (.aload_n 0, 1) := by decide +kernel
theorem d_M_run_15 : decode b_M_run 15 = .ok (.getfield 116, 3) := by decide +kernel
theorem d_M_run_18 : decode b_M_run 18 = .ok (.ifCond .ne 6, 3) := by decide +kernel
theorem d_M_run_21 : decode b_M_run 21 = .ok (.bipush (-3), 2) := by decide +kernel
theorem d_M_run_23 : decode b_M_run 23 = .ok (.ireturn, 1) := by decide +kernel
theorem d_M_run_24 : decode b_M_run 24 = .ok (.aload_n 0, 1) := by decide +kernel
theorem d_M_run_25 : decode b_M_run 25 = .ok (.invokevirtual 213, 3) := by decide +kernel
theorem d_M_run_28 : decode b_M_run 28 = .ok (.aload_n 0, 1) := by decide +kernel
theorem d_M_run_29 : decode b_M_run 29 = .ok (.invokevirtual 131, 3) := by decide +kernel
theorem d_M_run_32 : decode b_M_run 32 = .ok (.iconst 0, 1) := by decide +kernel
theorem d_M_run_33 : decode b_M_run 33 = .ok (.istore_n 3, 1) := by decide +kernel
theorem d_M_run_34 : decode b_M_run 34 = .ok (.iload_n 3, 1) := by decide +kernel
theorem d_M_run_35 : decode b_M_run 35 = .ok (.iconst 4, 1) := by decide +kernel
theorem d_M_run_36 : decode b_M_run 36 = .ok (.if_icmp .ge 16, 3) := by decide +kernel
theorem d_M_run_39 : decode b_M_run 39 = .ok (.aload_n 0, 1) := by decide +kernel
theorem d_M_run_40 : decode b_M_run 40 = .ok (.getfield 91, 3) := by decide +kernel
theorem d_M_run_43 : decode b_M_run 43 = .ok (.iload_n 3, 1) := by decide +kernel
theorem d_M_run_44 : decode b_M_run 44 = .ok (.iconst (-1), 1) := by decide +kernel
theorem d_M_run_45 : decode b_M_run 45 = .ok (.iastore, 1) := by decide +kernel
theorem d_M_run_46 : decode b_M_run 46 = .ok (.iinc 3 1, 3) := by decide +kernel
theorem d_M_run_49 : decode b_M_run 49 = .ok (.goto (-15), 3) := by decide +kernel
theorem d_M_run_52 : decode b_M_run 52 = .ok (.aload_n 0, 1) := by decide +kernel
theorem d_M_run_53 : decode b_M_run 53 = .ok (.iconst 0, 1) := by decide +kernel
theorem d_M_run_54 : decode b_M_run 54 = .ok (.iconst 0, 1) := by decide +kernel
theorem d_M_run_55 : decode b_M_run 55 = .ok (.iconst 0, 1) := by decide +kernel
theorem d_M_run_56 : decode b_M_run 56 = .ok (.invokevirtual 228, 3) := by decide +kernel
theorem d_M_run_59 : decode b_M_run 59 = .ok (.iload_n 1, 1) := by decide +kernel
theorem d_M_run_60 : decode b_M_run 60 = .ok (.istore_n 3, 1) := by decide +kernel
theorem d_M_run_61 : decode b_M_run 61 = .ok (.iconst 1, 1) := by decide +kernel
theorem d_M_run_62 : decode b_M_run 62 = .ok (.istore 4, 2) := by decide +kernel
theorem d_M_run_64 : decode b_M_run 64 = .ok (.iconst 0, 1) := by decide +kernel
theorem d_M_run_65 : decode b_M_run 65 = .ok (.istore 5, 2) := by decide +kernel
theorem d_M_run_67 : decode b_M_run 67 = .ok (.iload 5, 2) := by decide +kernel
theorem d_M_run_69 : decode b_M_run 69 = .ok (.iload_n 2, 1) := by decide +kernel
theorem d_M_run_70 : decode b_M_run 70 = .ok (.if_icmp .ge 97, 3) := by decide +kernel
theorem d_M_run_73 : decode b_M_run 73 = .ok (.iload_n 3, 1) := by decide +kernel
theorem d_M_run_74 : decode b_M_run 74 = .ok (.ldc 244, 2) := by decide +kernel
theorem d_M_run_76 : decode b_M_run 76 = .ok (.imul, 1) := by decide +kernel
theorem d_M_run_77 : decode b_M_run 77 = .ok (.ldc 245, 2) := by decide +kernel
theorem d_M_run_79 : decode b_M_run 79 = .ok (.iadd, 1) := by decide +kernel
theorem d_M_run_80 : decode b_M_run 80 = .ok (.istore_n 3, 1) := by decide +kernel
theorem d_M_run_81 : decode b_M_run 81 = .ok (.aload_n 0, 1) := by decide +kernel
theorem d_M_run_82 : decode b_M_run 82 = .ok (.getfield 94, 3) := by decide +kernel
theorem d_M_run_85 : decode b_M_run 85 = .ok (.aload_n 0, 1) := by decide +kernel
theorem d_M_run_86 : decode b_M_run 86 = .ok (.getfield 222, 3) := by decide +kernel
theorem d_M_run_89 : decode b_M_run 89 = .ok (.iconst 1, 1) := by decide +kernel
theorem d_M_run_90 : decode b_M_run 90 = .ok (.isub, 1) := by decide +kernel
theorem d_M_run_91 : decode b_M_run 91 = .ok (.iaload, 1) := by decide +kernel
theorem d_M_run_92 : decode b_M_run 92 = .ok (.istore 6, 2) := by decide +kernel
theorem d_M_run_94 : decode b_M_run 94 = .ok (.aload_n 0, 1) := by decide +kernel
theorem d_M_run_95 : decode b_M_run 95 = .ok (.iload 6, 2) := by decide +kernel
theorem d_M_run_97 : decode b_M_run 97 = .ok (.invokevirtual 246, 3) := by decide +kernel
theorem d_M_run_100 : decode b_M_run 100 = .ok (.istore 7, 2) := by decide +kernel
theorem d_M_run_102 : decode b_M_run 102 = .ok (.iload_n 3, 1) := by decide +kernel
theorem d_M_run_103 : decode b_M_run 103 = .ok (.iconst 1, 1) := by decide +kernel
theorem d_M_run_104 : decode b_M_run 104 = .ok (.iushr, 1) := by decide +kernel
theorem d_M_run_105 : decode b_M_run 105 = .ok (.iload 7, 2) := by decide +kernel
theorem d_M_run_107 : decode b_M_run 107 = .ok (.iconst 1, 1) := by decide +kernel
theorem d_M_run_108 : decode b_M_run 108 = .ok (.iadd, 1) := by decide +kernel
theorem d_M_run_109 : decode b_M_run 109 = .ok (.irem, 1) := by decide +kernel
theorem d_M_run_110 : decode b_M_run 110 = .ok (.istore 8, 2) := by decide +kernel
theorem d_M_run_112 : decode b_M_run 112 = .ok (.iload 8, 2) := by decide +kernel
theorem d_M_run_114 : decode b_M_run 114 = .ok (.iload 7, 2) := by decide +kernel
theorem d_M_run_116 : decode b_M_run 116 = .ok (.if_icmp .ge 18, 3) := by decide +kernel
theorem d_M_run_119 : decode b_M_run 119 = .ok (.aload_n 0, 1) := by decide +kernel
theorem d_M_run_120 : decode b_M_run 120 = .ok (.aload_n 0, 1) := by decide +kernel
theorem d_M_run_121 : decode b_M_run 121 = .ok (.iload 6, 2) := by decide +kernel
theorem d_M_run_123 : decode b_M_run 123 = .ok (.iload 8, 2) := by decide +kernel
theorem d_M_run_125 : decode b_M_run 125 = .ok (.invokevirtual 250, 3) := by decide +kernel
theorem d_M_run_128 : decode b_M_run 128 = .ok (.invokevirtual 253, 3) := by decide +kernel
theorem d_M_run_131 : decode b_M_run 131 = .ok (.goto 7, 3) := by decide +kernel
theorem d_M_run_134 : decode b_M_run 134 = .ok (.aload_n 0, 1) := by decide +kernel
theorem d_M_run_135 : decode b_M_run 135 = .ok (.invokevirtual 256, 3) := by decide +kernel
theorem d_M_run_138 : decode b_M_run 138 = .ok (.aload_n 0, 1) := by decide +kernel
theorem d_M_run_139 : decode b_M_run 139 = .ok (.invokevirtual 259, 3) := by decide +kernel
theorem d_M_run_142 : decode b_M_run 142 = .ok (.istore 9, 2) := by decide +kernel
theorem d_M_run_144 : decode b_M_run 144 = .ok (.iload 4, 2) := by decide +kernel
theorem d_M_run_146 : decode b_M_run 146 = .ok (.ifCond .eq 12, 3) := by decide +kernel
theorem d_M_run_149 : decode b_M_run 149 = .ok (.iload 9, 2) := by decide +kernel
theorem d_M_run_151 : decode b_M_run 151 = .ok (.ifCond .eq 7, 3) := by decide +kernel
theorem d_M_run_154 : decode b_M_run 154 = .ok (.iconst 1, 1) := by decide +kernel
theorem d_M_run_155 : decode b_M_run 155 = .ok (.goto 4, 3) := by decide +kernel
theorem d_M_run_158 : decode b_M_run 158 = .ok (.iconst 0, 1) := by decide +kernel
theorem d_M_run_159 : decode b_M_run 159 = .ok (.istore 4, 2) := by decide +kernel
theorem d_M_run_161 : decode b_M_run 161 = .ok (.iinc 5 1, 3) := by decide +kernel
theorem d_M_run_164 : decode b_M_run 164 = .ok (.goto (-97), 3) := by decide +kernel
theorem d_M_run_167 : decode b_M_run 167 = .ok (.iload 4, 2) := by decide +kernel
theorem d_M_run_169 : decode b_M_run 169 = .ok (.ifCond .eq 7, 3) := by decide +kernel
theorem d_M_run_172 : decode b_M_run 172 = .ok (.iconst 1, 1) := by decide +kernel
theorem d_M_run_173 : decode b_M_run 173 = .ok (.goto 4, 3) := by decide +kernel
theorem d_M_run_176 : decode b_M_run 176 = .ok (.iconst 0, 1) := by decide +kernel
theorem d_M_run_177 : decode b_M_run 177 = .ok (.ireturn, 1) := by decide +kernel
theorem d_M_open_0 : decode b_M_open 0 = .ok (.aload_n 0, 1) := by decide +kernel
theorem d_M_open_1 : decode b_M_open 1 = .ok (.getfield 94, 3) := by decide +kernel
theorem d_M_open_4 : decode b_M_open 4 = .ok (.aload_n 0, 1) := by decide +kernel
theorem d_M_open_5 : decode b_M_open 5 = .ok (.getfield 222, 3) := by decide +kernel
theorem d_M_open_8 : decode b_M_open 8 = .ok (.iload_n 1, 1) := by decide +kernel
theorem d_M_open_9 : decode b_M_open 9 = .ok (.iastore, 1) := by decide +kernel
theorem d_M_open_10 : decode b_M_open 10 = .ok (.aload_n 0, 1) := by decide +kernel
theorem d_M_open_11 : decode b_M_open 11 = .ok (.getfield 97, 3) := by decide +kernel
theorem d_M_open_14 : decode b_M_open 14 = .ok (.aload_n 0, 1) := by decide +kernel
theorem d_M_open_15 : decode b_M_open 15 = .ok (.getfield 222, 3) := by decide +kernel
theorem d_M_open_18 : decode b_M_open 18 = .ok (.iload_n 2, 1) := by decide +kernel
theorem d_M_open_19 : decode b_M_open 19 = .ok (.iastore, 1) := by decide +kernel
theorem d_M_open_20 : decode b_M_open 20 = .ok (.aload_n 0, 1) := by decide +kernel
theorem d_M_open_21 : decode b_M_open 21 = .ok (.getfield 100, 3) := by decide +kernel
theorem d_M_open_24 : decode b_M_open 24 = .ok (.aload_n 0, 1) := by decide +kernel
theorem d_M_open_25 : decode b_M_open 25 = .ok (.getfield 222, 3) := by decide +kernel
theorem d_M_open_28 : decode b_M_open 28 = .ok (.iload_n 3, 1) := by decide +kernel
theorem d_M_open_29 : decode b_M_open 29 = .ok (.iastore, 1) := by decide +kernel
theorem d_M_open_30 : decode b_M_open 30 = .ok (.iconst 0, 1) := by decide +kernel
theorem d_M_open_31 : decode b_M_open 31 = .ok (.istore 4, 2) := by decide +kernel
theorem d_M_open_33 : decode b_M_open 33 = .ok (.iload 4, 2) := by decide +kernel
theorem d_M_open_35 : decode b_M_open 35 = .ok (.bipush 6, 2) := by decide +kernel
theorem d_M_open_37 : decode b_M_open 37 = .ok (.if_icmp .ge 25, 3) := by decide +kernel
theorem d_M_open_40 : decode b_M_open 40 = .ok (.aload_n 0, 1) := by decide +kernel
theorem d_M_open_41 : decode b_M_open 41 = .ok (.getfield 103, 3) := by decide +kernel
theorem d_M_open_44 : decode b_M_open 44 = .ok (.bipush 6, 2) := by decide +kernel
theorem d_M_open_46 : decode b_M_open 46 = .ok (.aload_n 0, 1) := by decide +kernel
theorem d_M_open_47 : decode b_M_open 47 = .ok (.getfield 222, 3) := by decide +kernel
theorem d_M_open_50 : decode b_M_open 50 = .ok (.imul, 1) := by decide +kernel
theorem d_M_open_51 : decode b_M_open 51 = .ok (.iload 4, 2) := by decide +kernel
theorem d_M_open_53 : decode b_M_open 53 = .ok (.iadd, 1) := by decide +kernel
theorem d_M_open_54 : decode b_M_open 54 = .ok (.iconst (-1), 1) := by decide +kernel
theorem d_M_open_55 : decode b_M_open 55 = .ok (.iastore, 1) := by decide +kernel
theorem d_M_open_56 : decode b_M_open 56 = .ok (.iinc 4 1, 3) := by decide +kernel
theorem d_M_open_59 : decode b_M_open 59 = .ok (.goto (-26), 3) := by decide +kernel
theorem d_M_open_62 : decode b_M_open 62 = .ok (.aload_n 0, 1) := by decide +kernel
theorem d_M_open_63 : decode b_M_open 63 = .ok (.dup, 1) := by decide +kernel
theorem d_M_open_64 : decode b_M_open 64 = .ok (.getfield 222, 3) := by decide +kernel
theorem d_M_open_67 : decode b_M_open 67 = .ok (.iconst 1, 1) := by decide +kernel
theorem d_M_open_68 : decode b_M_open 68 = .ok (.iadd, 1) := by decide +kernel
theorem d_M_open_69 : decode b_M_open 69 = .ok (.putfield 222, 3) := by decide +kernel
theorem d_M_open_72 : decode b_M_open 72 = .ok (.return_, 1) := by decide +kernel
theorem d_M_many_0 : decode b_M_many 0 = .ok (.iconst 0, 1) := by decide +kernel
theorem d_M_many_1 : decode b_M_many 1 = .ok (.istore_n 2, 1) := by decide +kernel
theorem d_M_many_2 : decode b_M_many 2 = .ok (.iconst 0, 1) := by decide +kernel
theorem d_M_many_3 : decode b_M_many 3 = .ok (.istore_n 3, 1) := by decide +kernel
theorem d_M_many_4 : decode b_M_many 4 = .ok (.iload_n 3, 1) := by decide +kernel
theorem d_M_many_5 : decode b_M_many 5 = .ok (.aload_n 0, 1) := by decide +kernel
theorem d_M_many_6 : decode b_M_many 6 = .ok (.getfield 157, 3) := by decide +kernel
theorem d_M_many_9 : decode b_M_many 9 = .ok (.if_icmp .ge 27, 3) := by decide +kernel
theorem d_M_many_12 : decode b_M_many 12 = .ok (.iload_n 2, 1) := by decide +kernel
theorem d_M_many_13 : decode b_M_many 13 = .ok (.aload_n 0, 1) := by decide +kernel
theorem d_M_many_14 : decode b_M_many 14 = .ok (.getfield 22, 3) := by decide +kernel
theorem d_M_many_17 : decode b_M_many 17 = .ok (.iload_n 3, 1) := by decide +kernel
theorem d_M_many_18 : decode b_M_many 18 = .ok (.iaload, 1) := by decide +kernel
theorem d_M_many_19 : decode b_M_many 19 = .ok (.iload_n 1, 1) := by decide +kernel
theorem d_M_many_20 : decode b_M_many 20 = .ok (.if_icmp .ne 7, 3) := by decide +kernel
theorem d_M_many_23 : decode b_M_many 23 = .ok (.iconst 1, 1) := by decide +kernel
theorem d_M_many_24 : decode b_M_many 24 = .ok (.goto 4, 3) := by decide +kernel
theorem d_M_many_27 : decode b_M_many 27 = .ok (.iconst 0, 1) := by decide +kernel
theorem d_M_many_28 : decode b_M_many 28 = .ok (.iadd, 1) := by decide +kernel
theorem d_M_many_29 : decode b_M_many 29 = .ok (.istore_n 2, 1) := by decide +kernel
theorem d_M_many_30 : decode b_M_many 30 = .ok (.iinc 3 1, 3) := by decide +kernel
theorem d_M_many_33 : decode b_M_many 33 = .ok (.goto (-29), 3) := by decide +kernel
theorem d_M_many_36 : decode b_M_many 36 = .ok (.iload_n 2, 1) := by decide +kernel
theorem d_M_many_37 : decode b_M_many 37 = .ok (.ireturn, 1) := by decide +kernel
theorem d_M_statementOf_0 : decode b_M_statementOf 0 = .ok (.iload_n 2, 1) := by decide +kernel
theorem d_M_statementOf_1 : decode b_M_statementOf 1 = .ok (.istore_n 3, 1) := by decide +kernel
theorem d_M_statementOf_2 : decode b_M_statementOf 2 = .ok (.iconst 0, 1) := by decide +kernel
theorem d_M_statementOf_3 : decode b_M_statementOf 3 = .ok (.istore 4, 2) := by decide +kernel
theorem d_M_statementOf_5 : decode b_M_statementOf 5 = .ok (.iload 4, 2) := by decide +kernel
theorem d_M_statementOf_7 : decode b_M_statementOf 7 = .ok (.aload_n 0, 1) := by decide +kernel
theorem d_M_statementOf_8 : decode b_M_statementOf 8 = .ok (.getfield 157, 3) := by decide +kernel
theorem d_M_statementOf_11 : decode b_M_statementOf 11 = .ok (.if_icmp .ge 30, 3) := by decide +kernel
theorem d_M_statementOf_14 : decode b_M_statementOf 14 = .ok (.aload_n 0, 1) := by decide +kernel
theorem d_M_statementOf_15 : decode b_M_statementOf 15 = .ok (.getfield 22, 3) := by decide +kernel
theorem d_M_statementOf_18 : decode b_M_statementOf 18 = .ok (.iload 4, 2) := by decide +kernel
theorem d_M_statementOf_20 : decode b_M_statementOf 20 = .ok (.iaload, 1) := by decide +kernel
theorem d_M_statementOf_21 : decode b_M_statementOf 21 = .ok (.iload_n 1, 1) := by decide +kernel
theorem d_M_statementOf_22 : decode b_M_statementOf 22 = .ok (.if_icmp .ne 13, 3) := by decide +kernel
theorem d_M_statementOf_25 : decode b_M_statementOf 25 = .ok (.iload_n 3, 1) := by decide +kernel
theorem d_M_statementOf_26 : decode b_M_statementOf 26 = .ok (.ifCond .ne 6, 3) := by decide +kernel
theorem d_M_statementOf_29 : decode b_M_statementOf 29 = .ok (.iload 4, 2) := by decide +kernel
theorem d_M_statementOf_31 : decode b_M_statementOf 31 = .ok (.ireturn, 1) := by decide +kernel
theorem d_M_statementOf_32 : decode b_M_statementOf 32 = .ok (.iinc 3 (-1), 3) := by decide +kernel
theorem d_M_statementOf_35 : decode b_M_statementOf 35 = .ok (.iinc 4 1, 3) := by decide +kernel
theorem d_M_statementOf_38 : decode b_M_statementOf 38 = .ok (.goto (-33), 3) := by decide +kernel
theorem d_M_statementOf_41 : decode b_M_statementOf 41 = .ok (.iconst (-1), 1) := by decide +kernel
theorem d_M_statementOf_42 : decode b_M_statementOf 42 = .ok (.ireturn, 1) := by decide +kernel
theorem d_M_act_0 : decode b_M_act 0 = .ok (.bipush 6, 2) := by decide +kernel
theorem d_M_act_2 : decode b_M_act 2 = .ok (.aload_n 0, 1) := by decide +kernel
theorem d_M_act_3 : decode b_M_act 3 = .ok (.getfield 222, 3) := by decide +kernel
theorem d_M_act_6 : decode b_M_act 6 = .ok (.iconst 1, 1) := by decide +kernel
theorem d_M_act_7 : decode b_M_act 7 = .ok (.isub, 1) := by decide +kernel
theorem d_M_act_8 : decode b_M_act 8 = .ok (.imul, 1) := by decide +kernel
theorem d_M_act_9 : decode b_M_act 9 = .ok (.istore_n 2, 1) := by decide +kernel
theorem d_M_act_10 : decode b_M_act 10 = .ok (.iload_n 2, 1) := by decide +kernel
theorem d_M_act_11 : decode b_M_act 11 = .ok (.aload_n 0, 1) := by decide +kernel
theorem d_M_act_12 : decode b_M_act 12 = .ok (.getfield 28, 3) := by decide +kernel
theorem d_M_act_15 : decode b_M_act 15 = .ok (.iload_n 1, 1) := by decide +kernel
theorem d_M_act_16 : decode b_M_act 16 = .ok (.iaload, 1) := by decide +kernel
theorem d_M_act_17 : decode b_M_act 17 = .ok (.iadd, 1) := by decide +kernel
theorem d_M_act_18 : decode b_M_act 18 = .ok (.istore_n 3, 1) := by decide +kernel
theorem d_M_act_19 : decode b_M_act 19 = .ok (.aload_n 0, 1) := by decide +kernel
theorem d_M_act_20 : decode b_M_act 20 = .ok (.getfield 25, 3) := by decide +kernel
theorem d_M_act_23 : decode b_M_act 23 = .ok (.iload_n 1, 1) := by decide +kernel
theorem d_M_act_24 : decode b_M_act 24 = .ok (.iaload, 1) := by decide +kernel
theorem d_M_act_25 : decode b_M_act 25 = .ok (.bipush 6, 2) := by decide +kernel
theorem d_M_act_27 : decode b_M_act 27 = .ok (.if_icmp .ne 7, 3) := by decide +kernel
theorem d_M_act_30 : decode b_M_act 30 = .ok (.iconst (-1), 1) := by decide +kernel
theorem d_M_act_31 : decode b_M_act 31 = .ok (.goto 9, 3) := by decide +kernel
theorem d_M_act_34 : decode b_M_act 34 = .ok (.aload_n 0, 1) := by decide +kernel
theorem d_M_act_35 : decode b_M_act 35 = .ok (.getfield 103, 3) := by decide +kernel
theorem d_M_act_38 : decode b_M_act 38 = .ok (.iload_n 3, 1) := by decide +kernel
theorem d_M_act_39 : decode b_M_act 39 = .ok (.iaload, 1) := by decide +kernel
theorem d_M_act_40 : decode b_M_act 40 = .ok (.istore 4, 2) := by decide +kernel
theorem d_M_act_42 : decode b_M_act 42 = .ok (.aload_n 0, 1) := by decide +kernel
theorem d_M_act_43 : decode b_M_act 43 = .ok (.getfield 25, 3) := by decide +kernel
theorem d_M_act_46 : decode b_M_act 46 = .ok (.iload_n 1, 1) := by decide +kernel
theorem d_M_act_47 : decode b_M_act 47 = .ok (.iaload, 1) := by decide +kernel
theorem d_M_act_48 : decode b_M_act 48 = .ok (.ifCond .eq 13, 3) := by decide +kernel
theorem d_M_act_51 : decode b_M_act 51 = .ok (.aload_n 0, 1) := by decide +kernel
theorem d_M_act_52 : decode b_M_act 52 = .ok (.getfield 25, 3) := by decide +kernel
theorem d_M_act_55 : decode b_M_act 55 = .ok (.iload_n 1, 1) := by decide +kernel
theorem d_M_act_56 : decode b_M_act 56 = .ok (.iaload, 1) := by decide +kernel
theorem d_M_act_57 : decode b_M_act 57 = .ok (.iconst 5, 1) := by decide +kernel
theorem d_M_act_58 : decode b_M_act 58 = .ok (.if_icmp .ne 7, 3) := by decide +kernel
theorem d_M_act_61 : decode b_M_act 61 = .ok (.iconst (-1), 1) := by decide +kernel
theorem d_M_act_62 : decode b_M_act 62 = .ok (.goto 16, 3) := by decide +kernel
theorem d_M_act_65 : decode b_M_act 65 = .ok (.aload_n 0, 1) := by decide +kernel
theorem d_M_act_66 : decode b_M_act 66 = .ok (.getfield 103, 3) := by decide +kernel
theorem d_M_act_69 : decode b_M_act 69 = .ok (.iload_n 2, 1) := by decide +kernel
theorem d_M_act_70 : decode b_M_act 70 = .ok (.aload_n 0, 1) := by decide +kernel
theorem d_M_act_71 : decode b_M_act 71 = .ok (.getfield 31, 3) := by decide +kernel
theorem d_M_act_74 : decode b_M_act 74 = .ok (.iload_n 1, 1) := by decide +kernel
theorem d_M_act_75 : decode b_M_act 75 = .ok (.iaload, 1) := by decide +kernel
theorem d_M_act_76 : decode b_M_act 76 = .ok (.iadd, 1) := by decide +kernel
theorem d_M_act_77 : decode b_M_act 77 = .ok (.iaload, 1) := by decide +kernel
theorem d_M_act_78 : decode b_M_act 78 = .ok (.istore 5, 2) := by decide +kernel
theorem d_M_act_80 : decode b_M_act 80 = .ok (.aload_n 0, 1) := by decide +kernel
theorem d_M_act_81 : decode b_M_act 81 = .ok (.getfield 25, 3) := by decide +kernel
theorem d_M_act_84 : decode b_M_act 84 = .ok (.iload_n 1, 1) := by decide +kernel
theorem d_M_act_85 : decode b_M_act 85 = .ok (.iaload, 1) := by decide +kernel
theorem d_M_act_86 : decode b_M_act 86 = .ok (.tableswitch 272 0 8 #[50, 59, 70, 116, 153, 199, 219, 235, 246], 50) := by decide +kernel
theorem d_M_act_136 : decode b_M_act 136 = .ok (.aload_n 0, 1) := by decide +kernel
theorem d_M_act_137 : decode b_M_act 137 = .ok (.iload_n 1, 1) := by decide +kernel
theorem d_M_act_138 : decode b_M_act 138 = .ok (.iload_n 3, 1) := by decide +kernel
theorem d_M_act_139 : decode b_M_act 139 = .ok (.invokevirtual 232, 3) := by decide +kernel
theorem d_M_act_142 : decode b_M_act 142 = .ok (.goto 230, 3) := by decide +kernel
theorem d_M_act_145 : decode b_M_act 145 = .ok (.aload_n 0, 1) := by decide +kernel
theorem d_M_act_146 : decode b_M_act 146 = .ok (.getfield 103, 3) := by decide +kernel
theorem d_M_act_149 : decode b_M_act 149 = .ok (.iload_n 3, 1) := by decide +kernel
theorem d_M_act_150 : decode b_M_act 150 = .ok (.iload 5, 2) := by decide +kernel
theorem d_M_act_152 : decode b_M_act 152 = .ok (.iastore, 1) := by decide +kernel
theorem d_M_act_153 : decode b_M_act 153 = .ok (.goto 219, 3) := by decide +kernel
theorem d_M_act_156 : decode b_M_act 156 = .ok (.aload_n 0, 1) := by decide +kernel
theorem d_M_act_157 : decode b_M_act 157 = .ok (.getfield 103, 3) := by decide +kernel
theorem d_M_act_160 : decode b_M_act 160 = .ok (.iload_n 3, 1) := by decide +kernel
theorem d_M_act_161 : decode b_M_act 161 = .ok (.aload_n 0, 1) := by decide +kernel
theorem d_M_act_162 : decode b_M_act 162 = .ok (.iload 5, 2) := by decide +kernel
theorem d_M_act_164 : decode b_M_act 164 = .ok (.aload_n 0, 1) := by decide +kernel
theorem d_M_act_165 : decode b_M_act 165 = .ok (.getfield 34, 3) := by decide +kernel
theorem d_M_act_168 : decode b_M_act 168 = .ok (.iload_n 1, 1) := by decide +kernel
theorem d_M_act_169 : decode b_M_act 169 = .ok (.iaload, 1) := by decide +kernel
theorem d_M_act_170 : decode b_M_act 170 = .ok (.invokevirtual 235, 3) := by decide +kernel
theorem d_M_act_173 : decode b_M_act 173 = .ok (.ifCond .eq 23, 3) := by decide +kernel
theorem d_M_act_176 : decode b_M_act 176 = .ok (.aload_n 0, 1) := by decide +kernel
theorem d_M_act_177 : decode b_M_act 177 = .ok (.getfield 85, 3) := by decide +kernel
theorem d_M_act_180 : decode b_M_act 180 = .ok (.bipush 8, 2) := by decide +kernel
theorem d_M_act_182 : decode b_M_act 182 = .ok (.iload 5, 2) := by decide +kernel
theorem d_M_act_184 : decode b_M_act 184 = .ok (.imul, 1) := by decide +kernel
theorem d_M_act_185 : decode b_M_act 185 = .ok (.aload_n 0, 1) := by decide +kernel
theorem d_M_act_186 : decode b_M_act 186 = .ok (.getfield 34, 3) := by decide +kernel
theorem d_M_act_189 : decode b_M_act 189 = .ok (.iload_n 1, 1) := by decide +kernel
theorem d_M_act_190 : decode b_M_act 190 = .ok (.iaload, 1) := by decide +kernel
theorem d_M_act_191 : decode b_M_act 191 = .ok (.iadd, 1) := by decide +kernel
theorem d_M_act_192 : decode b_M_act 192 = .ok (.iaload, 1) := by decide +kernel
theorem d_M_act_193 : decode b_M_act 193 = .ok (.goto 5, 3) := by decide +kernel
theorem d_M_act_196 : decode b_M_act 196 = .ok (.iload 4, 2) := by decide +kernel
theorem d_M_act_198 : decode b_M_act 198 = .ok (.iastore, 1) := by decide +kernel
theorem d_M_act_199 : decode b_M_act 199 = .ok (.goto 173, 3) := by decide +kernel
theorem d_M_act_202 : decode b_M_act 202 = .ok (.aload_n 0, 1) := by decide +kernel
theorem d_M_act_203 : decode b_M_act 203 = .ok (.iload 4, 2) := by decide +kernel
theorem d_M_act_205 : decode b_M_act 205 = .ok (.aload_n 0, 1) := by decide +kernel
theorem d_M_act_206 : decode b_M_act 206 = .ok (.getfield 34, 3) := by decide +kernel
theorem d_M_act_209 : decode b_M_act 209 = .ok (.iload_n 1, 1) := by decide +kernel
theorem d_M_act_210 : decode b_M_act 210 = .ok (.iaload, 1) := by decide +kernel
theorem d_M_act_211 : decode b_M_act 211 = .ok (.invokevirtual 235, 3) := by decide +kernel
theorem d_M_act_214 : decode b_M_act 214 = .ok (.ifCond .eq 158, 3) := by decide +kernel
theorem d_M_act_217 : decode b_M_act 217 = .ok (.aload_n 0, 1) := by decide +kernel
theorem d_M_act_218 : decode b_M_act 218 = .ok (.getfield 85, 3) := by decide +kernel
theorem d_M_act_221 : decode b_M_act 221 = .ok (.bipush 8, 2) := by decide +kernel
theorem d_M_act_223 : decode b_M_act 223 = .ok (.iload 4, 2) := by decide +kernel
theorem d_M_act_225 : decode b_M_act 225 = .ok (.imul, 1) := by decide +kernel
theorem d_M_act_226 : decode b_M_act 226 = .ok (.aload_n 0, 1) := by decide +kernel
theorem d_M_act_227 : decode b_M_act 227 = .ok (.getfield 34, 3) := by decide +kernel
theorem d_M_act_230 : decode b_M_act 230 = .ok (.iload_n 1, 1) := by decide +kernel
theorem d_M_act_231 : decode b_M_act 231 = .ok (.iaload, 1) := by decide +kernel
theorem d_M_act_232 : decode b_M_act 232 = .ok (.iadd, 1) := by decide +kernel
theorem d_M_act_233 : decode b_M_act 233 = .ok (.iload 5, 2) := by decide +kernel
theorem d_M_act_235 : decode b_M_act 235 = .ok (.iastore, 1) := by decide +kernel
theorem d_M_act_236 : decode b_M_act 236 = .ok (.goto 136, 3) := by decide +kernel
theorem d_M_act_239 : decode b_M_act 239 = .ok (.aload_n 0, 1) := by decide +kernel
theorem d_M_act_240 : decode b_M_act 240 = .ok (.getfield 103, 3) := by decide +kernel
theorem d_M_act_243 : decode b_M_act 243 = .ok (.iload_n 3, 1) := by decide +kernel
theorem d_M_act_244 : decode b_M_act 244 = .ok (.iload 5, 2) := by decide +kernel
theorem d_M_act_246 : decode b_M_act 246 = .ok (.ifCond .lt 28, 3) := by decide +kernel
theorem d_M_act_249 : decode b_M_act 249 = .ok (.aload_n 0, 1) := by decide +kernel
theorem d_M_act_250 : decode b_M_act 250 = .ok (.aload_n 0, 1) := by decide +kernel
theorem d_M_act_251 : decode b_M_act 251 = .ok (.getfield 46, 3) := by decide +kernel
theorem d_M_act_254 : decode b_M_act 254 = .ok (.aload_n 0, 1) := by decide +kernel
theorem d_M_act_255 : decode b_M_act 255 = .ok (.getfield 82, 3) := by decide +kernel
theorem d_M_act_258 : decode b_M_act 258 = .ok (.iload 5, 2) := by decide +kernel
theorem d_M_act_260 : decode b_M_act 260 = .ok (.iaload, 1) := by decide +kernel
theorem d_M_act_261 : decode b_M_act 261 = .ok (.iaload, 1) := by decide +kernel
theorem d_M_act_262 : decode b_M_act 262 = .ok (.aload_n 0, 1) := by decide +kernel
theorem d_M_act_263 : decode b_M_act 263 = .ok (.getfield 34, 3) := by decide +kernel
theorem d_M_act_266 : decode b_M_act 266 = .ok (.iload_n 1, 1) := by decide +kernel
theorem d_M_act_267 : decode b_M_act 267 = .ok (.iaload, 1) := by decide +kernel
theorem d_M_act_268 : decode b_M_act 268 = .ok (.invokevirtual 119, 3) := by decide +kernel
theorem d_M_act_271 : decode b_M_act 271 = .ok (.ifCond .eq 8, 3) := by decide +kernel
theorem d_M_act_274 : decode b_M_act 274 = .ok (.iload 5, 2) := by decide +kernel
theorem d_M_act_276 : decode b_M_act 276 = .ok (.goto 5, 3) := by decide +kernel
theorem d_M_act_279 : decode b_M_act 279 = .ok (.iload 4, 2) := by decide +kernel
theorem d_M_act_281 : decode b_M_act 281 = .ok (.iastore, 1) := by decide +kernel
theorem d_M_act_282 : decode b_M_act 282 = .ok (.goto 90, 3) := by decide +kernel
theorem d_M_act_285 : decode b_M_act 285 = .ok (.aload_n 0, 1) := by decide +kernel
theorem d_M_act_286 : decode b_M_act 286 = .ok (.getfield 103, 3) := by decide +kernel
theorem d_M_act_289 : decode b_M_act 289 = .ok (.iload_n 3, 1) := by decide +kernel
theorem d_M_act_290 : decode b_M_act 290 = .ok (.aload_n 0, 1) := by decide +kernel
theorem d_M_act_291 : decode b_M_act 291 = .ok (.getfield 91, 3) := by decide +kernel
theorem d_M_act_294 : decode b_M_act 294 = .ok (.aload_n 0, 1) := by decide +kernel
theorem d_M_act_295 : decode b_M_act 295 = .ok (.getfield 31, 3) := by decide +kernel
theorem d_M_act_298 : decode b_M_act 298 = .ok (.iload_n 1, 1) := by decide +kernel
theorem d_M_act_299 : decode b_M_act 299 = .ok (.iaload, 1) := by decide +kernel
theorem d_M_act_300 : decode b_M_act 300 = .ok (.iaload, 1) := by decide +kernel
theorem d_M_act_301 : decode b_M_act 301 = .ok (.iastore, 1) := by decide +kernel
theorem d_M_act_302 : decode b_M_act 302 = .ok (.goto 70, 3) := by decide +kernel
theorem d_M_act_305 : decode b_M_act 305 = .ok (.aload_n 0, 1) := by decide +kernel
theorem d_M_act_306 : decode b_M_act 306 = .ok (.getfield 91, 3) := by decide +kernel
theorem d_M_act_309 : decode b_M_act 309 = .ok (.aload_n 0, 1) := by decide +kernel
theorem d_M_act_310 : decode b_M_act 310 = .ok (.getfield 28, 3) := by decide +kernel
theorem d_M_act_313 : decode b_M_act 313 = .ok (.iload_n 1, 1) := by decide +kernel
theorem d_M_act_314 : decode b_M_act 314 = .ok (.iaload, 1) := by decide +kernel
theorem d_M_act_315 : decode b_M_act 315 = .ok (.iload 5, 2) := by decide +kernel
theorem d_M_act_317 : decode b_M_act 317 = .ok (.iastore, 1) := by decide +kernel
theorem d_M_act_318 : decode b_M_act 318 = .ok (.goto 54, 3) := by decide +kernel
theorem d_M_act_321 : decode b_M_act 321 = .ok (.aload_n 0, 1) := by decide +kernel
theorem d_M_act_322 : decode b_M_act 322 = .ok (.iload_n 1, 1) := by decide +kernel
theorem d_M_act_323 : decode b_M_act 323 = .ok (.iload_n 2, 1) := by decide +kernel
theorem d_M_act_324 : decode b_M_act 324 = .ok (.iload 5, 2) := by decide +kernel
theorem d_M_act_326 : decode b_M_act 326 = .ok (.invokevirtual 238, 3) := by decide +kernel
theorem d_M_act_329 : decode b_M_act 329 = .ok (.goto 43, 3) := by decide +kernel
theorem d_M_act_332 : decode b_M_act 332 = .ok (.aload_n 0, 1) := by decide +kernel
theorem d_M_act_333 : decode b_M_act 333 = .ok (.getfield 103, 3) := by decide +kernel
theorem d_M_act_336 : decode b_M_act 336 = .ok (.iload_n 3, 1) := by decide +kernel
theorem d_M_act_337 : decode b_M_act 337 = .ok (.iload 5, 2) := by decide +kernel
theorem d_M_act_339 : decode b_M_act 339 = .ok (.ifCond .lt 13, 3) := by decide +kernel
theorem d_M_act_342 : decode b_M_act 342 = .ok (.aload_n 0, 1) := by decide +kernel
theorem d_M_act_343 : decode b_M_act 343 = .ok (.getfield 88, 3) := by decide +kernel
theorem d_M_act_346 : decode b_M_act 346 = .ok (.iload 5, 2) := by decide +kernel
theorem d_M_act_348 : decode b_M_act 348 = .ok (.iaload, 1) := by decide +kernel
theorem d_M_act_349 : decode b_M_act 349 = .ok (.goto 5, 3) := by decide +kernel
theorem d_M_act_352 : decode b_M_act 352 = .ok (.iload 4, 2) := by decide +kernel
theorem d_M_act_354 : decode b_M_act 354 = .ok (.iastore, 1) := by decide +kernel
theorem d_M_act_355 : decode b_M_act 355 = .ok (.goto 17, 3) := by decide +kernel
theorem d_M_act_358 : decode b_M_act 358 = .ok (.iload 4, 2) := by decide +kernel
theorem d_M_act_360 : decode b_M_act 360 = .ok (.ifCond .lt 12, 3) := by decide +kernel
theorem d_M_act_363 : decode b_M_act 363 = .ok (.aload_n 0, 1) := by decide +kernel
theorem d_M_act_364 : decode b_M_act 364 = .ok (.getfield 88, 3) := by decide +kernel
theorem d_M_act_367 : decode b_M_act 367 = .ok (.iload 4, 2) := by decide +kernel
theorem d_M_act_369 : decode b_M_act 369 = .ok (.iload 5, 2) := by decide +kernel
theorem d_M_act_371 : decode b_M_act 371 = .ok (.iastore, 1) := by decide +kernel
theorem d_M_act_372 : decode b_M_act 372 = .ok (.return_, 1) := by decide +kernel
theorem d_M_make_0 : decode b_M_make 0 = .ok (.aload_n 0, 1) := by decide +kernel
theorem d_M_make_1 : decode b_M_make 1 = .ok (.getfield 219, 3) := by decide +kernel
theorem d_M_make_4 : decode b_M_make 4 = .ok (.bipush 30, 2) := by decide +kernel
theorem d_M_make_6 : decode b_M_make 6 = .ok (.if_icmp .ne 4, 3) := by decide +kernel
theorem d_M_make_9 : decode b_M_make 9 = .ok (.return_, 1) := by decide +kernel
theorem d_M_make_10 : decode b_M_make 10 = .ok (.aload_n 0, 1) := by decide +kernel
theorem d_M_make_11 : decode b_M_make 11 = .ok (.getfield 82, 3) := by decide +kernel
theorem d_M_make_14 : decode b_M_make 14 = .ok (.aload_n 0, 1) := by decide +kernel
theorem d_M_make_15 : decode b_M_make 15 = .ok (.getfield 219, 3) := by decide +kernel
theorem d_M_make_18 : decode b_M_make 18 = .ok (.aload_n 0, 1) := by decide +kernel
theorem d_M_make_19 : decode b_M_make 19 = .ok (.getfield 43, 3) := by decide +kernel
theorem d_M_make_22 : decode b_M_make 22 = .ok (.iload_n 1, 1) := by decide +kernel
theorem d_M_make_23 : decode b_M_make 23 = .ok (.iaload, 1) := by decide +kernel
theorem d_M_make_24 : decode b_M_make 24 = .ok (.iastore, 1) := by decide +kernel
theorem d_M_make_25 : decode b_M_make 25 = .ok (.aload_n 0, 1) := by decide +kernel
theorem d_M_make_26 : decode b_M_make 26 = .ok (.getfield 88, 3) := by decide +kernel
theorem d_M_make_29 : decode b_M_make 29 = .ok (.aload_n 0, 1) := by decide +kernel
theorem d_M_make_30 : decode b_M_make 30 = .ok (.getfield 219, 3) := by decide +kernel
theorem d_M_make_33 : decode b_M_make 33 = .ok (.iconst (-1), 1) := by decide +kernel
theorem d_M_make_34 : decode b_M_make 34 = .ok (.iastore, 1) := by decide +kernel
theorem d_M_make_35 : decode b_M_make 35 = .ok (.iconst 0, 1) := by decide +kernel
theorem d_M_make_36 : decode b_M_make 36 = .ok (.istore_n 3, 1) := by decide +kernel
theorem d_M_make_37 : decode b_M_make 37 = .ok (.iload_n 3, 1) := by decide +kernel
theorem d_M_make_38 : decode b_M_make 38 = .ok (.bipush 8, 2) := by decide +kernel
theorem d_M_make_40 : decode b_M_make 40 = .ok (.if_icmp .ge 24, 3) := by decide +kernel
theorem d_M_make_43 : decode b_M_make 43 = .ok (.aload_n 0, 1) := by decide +kernel
theorem d_M_make_44 : decode b_M_make 44 = .ok (.getfield 85, 3) := by decide +kernel
theorem d_M_make_47 : decode b_M_make 47 = .ok (.bipush 8, 2) := by decide +kernel
theorem d_M_make_49 : decode b_M_make 49 = .ok (.aload_n 0, 1) := by decide +kernel
theorem d_M_make_50 : decode b_M_make 50 = .ok (.getfield 219, 3) := by decide +kernel
theorem d_M_make_53 : decode b_M_make 53 = .ok (.imul, 1) := by decide +kernel
theorem d_M_make_54 : decode b_M_make 54 = .ok (.iload_n 3, 1) := by decide +kernel
theorem d_M_make_55 : decode b_M_make 55 = .ok (.iadd, 1) := by decide +kernel
theorem d_M_make_56 : decode b_M_make 56 = .ok (.iconst (-1), 1) := by decide +kernel
theorem d_M_make_57 : decode b_M_make 57 = .ok (.iastore, 1) := by decide +kernel
theorem d_M_make_58 : decode b_M_make 58 = .ok (.iinc 3 1, 3) := by decide +kernel
theorem d_M_make_61 : decode b_M_make 61 = .ok (.goto (-24), 3) := by decide +kernel
theorem d_M_make_64 : decode b_M_make 64 = .ok (.aload_n 0, 1) := by decide +kernel
theorem d_M_make_65 : decode b_M_make 65 = .ok (.getfield 103, 3) := by decide +kernel
theorem d_M_make_68 : decode b_M_make 68 = .ok (.iload_n 2, 1) := by decide +kernel
theorem d_M_make_69 : decode b_M_make 69 = .ok (.aload_n 0, 1) := by decide +kernel
theorem d_M_make_70 : decode b_M_make 70 = .ok (.getfield 219, 3) := by decide +kernel
theorem d_M_make_73 : decode b_M_make 73 = .ok (.iastore, 1) := by decide +kernel
theorem d_M_make_74 : decode b_M_make 74 = .ok (.aload_n 0, 1) := by decide +kernel
theorem d_M_make_75 : decode b_M_make 75 = .ok (.dup, 1) := by decide +kernel
theorem d_M_make_76 : decode b_M_make 76 = .ok (.getfield 219, 3) := by decide +kernel
theorem d_M_make_79 : decode b_M_make 79 = .ok (.iconst 1, 1) := by decide +kernel
theorem d_M_make_80 : decode b_M_make 80 = .ok (.iadd, 1) := by decide +kernel
theorem d_M_make_81 : decode b_M_make 81 = .ok (.putfield 219, 3) := by decide +kernel
theorem d_M_make_84 : decode b_M_make 84 = .ok (.return_, 1) := by decide +kernel
theorem d_M_canHave_0 : decode b_M_canHave 0 = .ok (.iload_n 1, 1) := by decide +kernel
theorem d_M_canHave_1 : decode b_M_canHave 1 = .ok (.ifCond .lt 21, 3) := by decide +kernel
theorem d_M_canHave_4 : decode b_M_canHave 4 = .ok (.aload_n 0, 1) := by decide +kernel
theorem d_M_canHave_5 : decode b_M_canHave 5 = .ok (.aload_n 0, 1) := by decide +kernel
theorem d_M_canHave_6 : decode b_M_canHave 6 = .ok (.getfield 82, 3) := by decide +kernel
theorem d_M_canHave_9 : decode b_M_canHave 9 = .ok (.iload_n 1, 1) := by decide +kernel
theorem d_M_canHave_10 : decode b_M_canHave 10 = .ok (.iaload, 1) := by decide +kernel
theorem d_M_canHave_11 : decode b_M_canHave 11 = .ok (.iload_n 2, 1) := by decide +kernel
theorem d_M_canHave_12 : decode b_M_canHave 12 = .ok (.invokevirtual 177, 3) := by decide +kernel
theorem d_M_canHave_15 : decode b_M_canHave 15 = .ok (.ifCond .eq 7, 3) := by decide +kernel
theorem d_M_canHave_18 : decode b_M_canHave 18 = .ok (.iconst 1, 1) := by decide +kernel
theorem d_M_canHave_19 : decode b_M_canHave 19 = .ok (.goto 4, 3) := by decide +kernel
theorem d_M_canHave_22 : decode b_M_canHave 22 = .ok (.iconst 0, 1) := by decide +kernel
theorem d_M_canHave_23 : decode b_M_canHave 23 = .ok (.ireturn, 1) := by decide +kernel
theorem d_M_enter_0 : decode b_M_enter 0 = .ok (.iload_n 3, 1) := by decide +kernel
theorem d_M_enter_1 : decode b_M_enter 1 = .ok (.ifCond .ge 7, 3) := by decide +kernel
theorem d_M_enter_4 : decode b_M_enter 4 = .ok (.iconst (-1), 1) := by decide +kernel
theorem d_M_enter_5 : decode b_M_enter 5 = .ok (.goto 24, 3) := by decide +kernel
theorem d_M_enter_8 : decode b_M_enter 8 = .ok (.aload_n 0, 1) := by decide +kernel
theorem d_M_enter_9 : decode b_M_enter 9 = .ok (.aload_n 0, 1) := by decide +kernel
theorem d_M_enter_10 : decode b_M_enter 10 = .ok (.getfield 46, 3) := by decide +kernel
theorem d_M_enter_13 : decode b_M_enter 13 = .ok (.aload_n 0, 1) := by decide +kernel
theorem d_M_enter_14 : decode b_M_enter 14 = .ok (.getfield 82, 3) := by decide +kernel
theorem d_M_enter_17 : decode b_M_enter 17 = .ok (.iload_n 3, 1) := by decide +kernel
theorem d_M_enter_18 : decode b_M_enter 18 = .ok (.iaload, 1) := by decide +kernel
theorem d_M_enter_19 : decode b_M_enter 19 = .ok (.iaload, 1) := by decide +kernel
theorem d_M_enter_20 : decode b_M_enter 20 = .ok (.aload_n 0, 1) := by decide +kernel
theorem d_M_enter_21 : decode b_M_enter 21 = .ok (.getfield 34, 3) := by decide +kernel
theorem d_M_enter_24 : decode b_M_enter 24 = .ok (.iload_n 1, 1) := by decide +kernel
theorem d_M_enter_25 : decode b_M_enter 25 = .ok (.iaload, 1) := by decide +kernel
theorem d_M_enter_26 : decode b_M_enter 26 = .ok (.invokevirtual 180, 3) := by decide +kernel
theorem d_M_enter_29 : decode b_M_enter 29 = .ok (.istore 4, 2) := by decide +kernel
theorem d_M_enter_31 : decode b_M_enter 31 = .ok (.iload 4, 2) := by decide +kernel
theorem d_M_enter_33 : decode b_M_enter 33 = .ok (.ifCond .lt 12, 3) := by decide +kernel
theorem d_M_enter_36 : decode b_M_enter 36 = .ok (.aload_n 0, 1) := by decide +kernel
theorem d_M_enter_37 : decode b_M_enter 37 = .ok (.getfield 222, 3) := by decide +kernel
theorem d_M_enter_40 : decode b_M_enter 40 = .ok (.bipush 10, 2) := by decide +kernel
theorem d_M_enter_42 : decode b_M_enter 42 = .ok (.if_icmp .ne 4, 3) := by decide +kernel
theorem d_M_enter_45 : decode b_M_enter 45 = .ok (.return_, 1) := by decide +kernel
theorem d_M_enter_46 : decode b_M_enter 46 = .ok (.aload_n 0, 1) := by decide +kernel
theorem d_M_enter_47 : decode b_M_enter 47 = .ok (.getfield 103, 3) := by decide +kernel
theorem d_M_enter_50 : decode b_M_enter 50 = .ok (.iload_n 2, 1) := by decide +kernel
theorem d_M_enter_51 : decode b_M_enter 51 = .ok (.aload_n 0, 1) := by decide +kernel
theorem d_M_enter_52 : decode b_M_enter 52 = .ok (.getfield 37, 3) := by decide +kernel
theorem d_M_enter_55 : decode b_M_enter 55 = .ok (.iload_n 1, 1) := by decide +kernel
theorem d_M_enter_56 : decode b_M_enter 56 = .ok (.iaload, 1) := by decide +kernel
theorem d_M_enter_57 : decode b_M_enter 57 = .ok (.iadd, 1) := by decide +kernel
theorem d_M_enter_58 : decode b_M_enter 58 = .ok (.iaload, 1) := by decide +kernel
theorem d_M_enter_59 : decode b_M_enter 59 = .ok (.istore 5, 2) := by decide +kernel
theorem d_M_enter_61 : decode b_M_enter 61 = .ok (.aload_n 0, 1) := by decide +kernel
theorem d_M_enter_62 : decode b_M_enter 62 = .ok (.getfield 103, 3) := by decide +kernel
theorem d_M_enter_65 : decode b_M_enter 65 = .ok (.iload_n 2, 1) := by decide +kernel
theorem d_M_enter_66 : decode b_M_enter 66 = .ok (.aload_n 0, 1) := by decide +kernel
theorem d_M_enter_67 : decode b_M_enter 67 = .ok (.getfield 40, 3) := by decide +kernel
theorem d_M_enter_70 : decode b_M_enter 70 = .ok (.iload_n 1, 1) := by decide +kernel
theorem d_M_enter_71 : decode b_M_enter 71 = .ok (.iaload, 1) := by decide +kernel
theorem d_M_enter_72 : decode b_M_enter 72 = .ok (.iadd, 1) := by decide +kernel
theorem d_M_enter_73 : decode b_M_enter 73 = .ok (.iaload, 1) := by decide +kernel
theorem d_M_enter_74 : decode b_M_enter 74 = .ok (.istore 6, 2) := by decide +kernel
theorem d_M_enter_76 : decode b_M_enter 76 = .ok (.aload_n 0, 1) := by decide +kernel
theorem d_M_enter_77 : decode b_M_enter 77 = .ok (.iload 4, 2) := by decide +kernel
theorem d_M_enter_79 : decode b_M_enter 79 = .ok (.aload_n 0, 1) := by decide +kernel
theorem d_M_enter_80 : decode b_M_enter 80 = .ok (.getfield 163, 3) := by decide +kernel
theorem d_M_enter_83 : decode b_M_enter 83 = .ok (.ifCond .ne 7, 3) := by decide +kernel
theorem d_M_enter_86 : decode b_M_enter 86 = .ok (.iconst 0, 1) := by decide +kernel
theorem d_M_enter_87 : decode b_M_enter 87 = .ok (.goto 11, 3) := by decide +kernel
theorem d_M_enter_90 : decode b_M_enter 90 = .ok (.iconst 1, 1) := by decide +kernel
theorem d_M_enter_91 : decode b_M_enter 91 = .ok (.aload_n 0, 1) := by decide +kernel
theorem d_M_enter_92 : decode b_M_enter 92 = .ok (.getfield 82, 3) := by decide +kernel
theorem d_M_enter_95 : decode b_M_enter 95 = .ok (.iload_n 3, 1) := by decide +kernel
theorem d_M_enter_96 : decode b_M_enter 96 = .ok (.iaload, 1) := by decide +kernel
theorem d_M_enter_97 : decode b_M_enter 97 = .ok (.iadd, 1) := by decide +kernel
theorem d_M_enter_98 : decode b_M_enter 98 = .ok (.aload_n 0, 1) := by decide +kernel
theorem d_M_enter_99 : decode b_M_enter 99 = .ok (.getfield 28, 3) := by decide +kernel
theorem d_M_enter_102 : decode b_M_enter 102 = .ok (.iload_n 1, 1) := by decide +kernel
theorem d_M_enter_103 : decode b_M_enter 103 = .ok (.iaload, 1) := by decide +kernel
theorem d_M_enter_104 : decode b_M_enter 104 = .ok (.invokevirtual 228, 3) := by decide +kernel
theorem d_M_enter_107 : decode b_M_enter 107 = .ok (.aload_n 0, 1) := by decide +kernel
theorem d_M_enter_108 : decode b_M_enter 108 = .ok (.getfield 103, 3) := by decide +kernel
theorem d_M_enter_111 : decode b_M_enter 111 = .ok (.iload_n 2, 1) := by decide +kernel
theorem d_M_enter_112 : decode b_M_enter 112 = .ok (.bipush 6, 2) := by decide +kernel
theorem d_M_enter_114 : decode b_M_enter 114 = .ok (.iadd, 1) := by decide +kernel
theorem d_M_enter_115 : decode b_M_enter 115 = .ok (.iload_n 3, 1) := by decide +kernel
theorem d_M_enter_116 : decode b_M_enter 116 = .ok (.iastore, 1) := by decide +kernel
theorem d_M_enter_117 : decode b_M_enter 117 = .ok (.aload_n 0, 1) := by decide +kernel
theorem d_M_enter_118 : decode b_M_enter 118 = .ok (.getfield 103, 3) := by decide +kernel
theorem d_M_enter_121 : decode b_M_enter 121 = .ok (.iload_n 2, 1) := by decide +kernel
theorem d_M_enter_122 : decode b_M_enter 122 = .ok (.bipush 7, 2) := by decide +kernel
theorem d_M_enter_124 : decode b_M_enter 124 = .ok (.iadd, 1) := by decide +kernel
theorem d_M_enter_125 : decode b_M_enter 125 = .ok (.iload 5, 2) := by decide +kernel
theorem d_M_enter_127 : decode b_M_enter 127 = .ok (.iastore, 1) := by decide +kernel
theorem d_M_enter_128 : decode b_M_enter 128 = .ok (.aload_n 0, 1) := by decide +kernel
theorem d_M_enter_129 : decode b_M_enter 129 = .ok (.getfield 103, 3) := by decide +kernel
theorem d_M_enter_132 : decode b_M_enter 132 = .ok (.iload_n 2, 1) := by decide +kernel
theorem d_M_enter_133 : decode b_M_enter 133 = .ok (.bipush 8, 2) := by decide +kernel
theorem d_M_enter_135 : decode b_M_enter 135 = .ok (.iadd, 1) := by decide +kernel
theorem d_M_enter_136 : decode b_M_enter 136 = .ok (.iload 6, 2) := by decide +kernel
theorem d_M_enter_138 : decode b_M_enter 138 = .ok (.iastore, 1) := by decide +kernel
theorem d_M_enter_139 : decode b_M_enter 139 = .ok (.aload_n 0, 1) := by decide +kernel
theorem d_M_enter_140 : decode b_M_enter 140 = .ok (.dup, 1) := by decide +kernel
theorem d_M_enter_141 : decode b_M_enter 141 = .ok (.getfield 225, 3) := by decide +kernel
theorem d_M_enter_144 : decode b_M_enter 144 = .ok (.iconst 1, 1) := by decide +kernel
theorem d_M_enter_145 : decode b_M_enter 145 = .ok (.iadd, 1) := by decide +kernel
theorem d_M_enter_146 : decode b_M_enter 146 = .ok (.putfield 225, 3) := by decide +kernel
theorem d_M_enter_149 : decode b_M_enter 149 = .ok (.return_, 1) := by decide +kernel
theorem d_M_leave_0 : decode b_M_leave 0 = .ok (.aload_n 0, 1) := by decide +kernel
theorem d_M_leave_1 : decode b_M_leave 1 = .ok (.getfield 222, 3) := by decide +kernel
theorem d_M_leave_4 : decode b_M_leave 4 = .ok (.iconst 1, 1) := by decide +kernel
theorem d_M_leave_5 : decode b_M_leave 5 = .ok (.if_icmp .ne 4, 3) := by decide +kernel
theorem d_M_leave_8 : decode b_M_leave 8 = .ok (.return_, 1) := by decide +kernel
theorem d_M_leave_9 : decode b_M_leave 9 = .ok (.aload_n 0, 1) := by decide +kernel
theorem d_M_leave_10 : decode b_M_leave 10 = .ok (.dup, 1) := by decide +kernel
theorem d_M_leave_11 : decode b_M_leave 11 = .ok (.getfield 222, 3) := by decide +kernel
theorem d_M_leave_14 : decode b_M_leave 14 = .ok (.iconst 1, 1) := by decide +kernel
theorem d_M_leave_15 : decode b_M_leave 15 = .ok (.isub, 1) := by decide +kernel
theorem d_M_leave_16 : decode b_M_leave 16 = .ok (.putfield 222, 3) := by decide +kernel
theorem d_M_leave_19 : decode b_M_leave 19 = .ok (.aload_n 0, 1) := by decide +kernel
theorem d_M_leave_20 : decode b_M_leave 20 = .ok (.getfield 103, 3) := by decide +kernel
theorem d_M_leave_23 : decode b_M_leave 23 = .ok (.bipush 6, 2) := by decide +kernel
theorem d_M_leave_25 : decode b_M_leave 25 = .ok (.aload_n 0, 1) := by decide +kernel
theorem d_M_leave_26 : decode b_M_leave 26 = .ok (.getfield 222, 3) := by decide +kernel
theorem d_M_leave_29 : decode b_M_leave 29 = .ok (.iconst 1, 1) := by decide +kernel
theorem d_M_leave_30 : decode b_M_leave 30 = .ok (.isub, 1) := by decide +kernel
theorem d_M_leave_31 : decode b_M_leave 31 = .ok (.imul, 1) := by decide +kernel
theorem d_M_leave_32 : decode b_M_leave 32 = .ok (.aload_n 0, 1) := by decide +kernel
theorem d_M_leave_33 : decode b_M_leave 33 = .ok (.getfield 100, 3) := by decide +kernel
theorem d_M_leave_36 : decode b_M_leave 36 = .ok (.aload_n 0, 1) := by decide +kernel
theorem d_M_leave_37 : decode b_M_leave 37 = .ok (.getfield 222, 3) := by decide +kernel
theorem d_M_leave_40 : decode b_M_leave 40 = .ok (.iaload, 1) := by decide +kernel
theorem d_M_leave_41 : decode b_M_leave 41 = .ok (.iadd, 1) := by decide +kernel
theorem d_M_leave_42 : decode b_M_leave 42 = .ok (.aload_n 0, 1) := by decide +kernel
theorem d_M_leave_43 : decode b_M_leave 43 = .ok (.getfield 103, 3) := by decide +kernel
theorem d_M_leave_46 : decode b_M_leave 46 = .ok (.bipush 6, 2) := by decide +kernel
theorem d_M_leave_48 : decode b_M_leave 48 = .ok (.aload_n 0, 1) := by decide +kernel
theorem d_M_leave_49 : decode b_M_leave 49 = .ok (.getfield 222, 3) := by decide +kernel
theorem d_M_leave_52 : decode b_M_leave 52 = .ok (.imul, 1) := by decide +kernel
theorem d_M_leave_53 : decode b_M_leave 53 = .ok (.iconst 5, 1) := by decide +kernel
theorem d_M_leave_54 : decode b_M_leave 54 = .ok (.iadd, 1) := by decide +kernel
theorem d_M_leave_55 : decode b_M_leave 55 = .ok (.iaload, 1) := by decide +kernel
theorem d_M_leave_56 : decode b_M_leave 56 = .ok (.iastore, 1) := by decide +kernel
theorem d_M_leave_57 : decode b_M_leave 57 = .ok (.return_, 1) := by decide +kernel
theorem d_M_holds_0 : decode b_M_holds 0 = .ok (.iconst 1, 1) := by decide +kernel
theorem d_M_holds_1 : decode b_M_holds 1 = .ok (.istore_n 1, 1) := by decide +kernel
theorem d_M_holds_2 : decode b_M_holds 2 = .ok (.aload_n 0, 1) := by decide +kernel
theorem d_M_holds_3 : decode b_M_holds 3 = .ok (.getfield 222, 3) := by decide +kernel
theorem d_M_holds_6 : decode b_M_holds 6 = .ok (.iconst 1, 1) := by decide +kernel
theorem d_M_holds_7 : decode b_M_holds 7 = .ok (.isub, 1) := by decide +kernel
theorem d_M_holds_8 : decode b_M_holds 8 = .ok (.istore_n 2, 1) := by decide +kernel
theorem d_M_holds_9 : decode b_M_holds 9 = .ok (.iconst 0, 1) := by decide +kernel
theorem d_M_holds_10 : decode b_M_holds 10 = .ok (.istore_n 3, 1) := by decide +kernel
theorem d_M_holds_11 : decode b_M_holds 11 = .ok (.iload_n 3, 1) := by decide +kernel
theorem d_M_holds_12 : decode b_M_holds 12 = .ok (.bipush 6, 2) := by decide +kernel
theorem d_M_holds_14 : decode b_M_holds 14 = .ok (.if_icmp .ge 99, 3) := by decide +kernel
theorem d_M_holds_17 : decode b_M_holds 17 = .ok (.aload_n 0, 1) := by decide +kernel
theorem d_M_holds_18 : decode b_M_holds 18 = .ok (.getfield 103, 3) := by decide +kernel
theorem d_M_holds_21 : decode b_M_holds 21 = .ok (.bipush 6, 2) := by decide +kernel
theorem d_M_holds_23 : decode b_M_holds 23 = .ok (.iload_n 2, 1) := by decide +kernel
theorem d_M_holds_24 : decode b_M_holds 24 = .ok (.imul, 1) := by decide +kernel
theorem d_M_holds_25 : decode b_M_holds 25 = .ok (.iload_n 3, 1) := by decide +kernel
theorem d_M_holds_26 : decode b_M_holds 26 = .ok (.iadd, 1) := by decide +kernel
theorem d_M_holds_27 : decode b_M_holds 27 = .ok (.iaload, 1) := by decide +kernel
theorem d_M_holds_28 : decode b_M_holds 28 = .ok (.istore 4, 2) := by decide +kernel
theorem d_M_holds_30 : decode b_M_holds 30 = .ok (.iload_n 1, 1) := by decide +kernel
theorem d_M_holds_31 : decode b_M_holds 31 = .ok (.ifCond .eq 37, 3) := by decide +kernel
theorem d_M_holds_34 : decode b_M_holds 34 = .ok (.aload_n 0, 1) := by decide +kernel
theorem d_M_holds_35 : decode b_M_holds 35 = .ok (.iload 4, 2) := by decide +kernel
theorem d_M_holds_37 : decode b_M_holds 37 = .ok (.aload_n 0, 1) := by decide +kernel
theorem d_M_holds_38 : decode b_M_holds 38 = .ok (.getfield 49, 3) := by decide +kernel
theorem d_M_holds_41 : decode b_M_holds 41 = .ok (.aload_n 0, 1) := by decide +kernel
theorem d_M_holds_42 : decode b_M_holds 42 = .ok (.getfield 94, 3) := by decide +kernel
theorem d_M_holds_45 : decode b_M_holds 45 = .ok (.iload_n 2, 1) := by decide +kernel
theorem d_M_holds_46 : decode b_M_holds 46 = .ok (.iaload, 1) := by decide +kernel
theorem d_M_holds_47 : decode b_M_holds 47 = .ok (.aload_n 0, 1) := by decide +kernel
theorem d_M_holds_48 : decode b_M_holds 48 = .ok (.getfield 97, 3) := by decide +kernel
theorem d_M_holds_51 : decode b_M_holds 51 = .ok (.iload_n 2, 1) := by decide +kernel
theorem d_M_holds_52 : decode b_M_holds 52 = .ok (.iaload, 1) := by decide +kernel
theorem d_M_holds_53 : decode b_M_holds 53 = .ok (.iload_n 3, 1) := by decide +kernel
theorem d_M_holds_54 : decode b_M_holds 54 = .ok (.invokestatic 166, 3) := by decide +kernel
theorem d_M_holds_57 : decode b_M_holds 57 = .ok (.iaload, 1) := by decide +kernel
theorem d_M_holds_58 : decode b_M_holds 58 = .ok (.invokevirtual 241, 3) := by decide +kernel
theorem d_M_holds_61 : decode b_M_holds 61 = .ok (.ifCond .eq 7, 3) := by decide +kernel
theorem d_M_holds_64 : decode b_M_holds 64 = .ok (.iconst 1, 1) := by decide +kernel
theorem d_M_holds_65 : decode b_M_holds 65 = .ok (.goto 4, 3) := by decide +kernel
theorem d_M_holds_68 : decode b_M_holds 68 = .ok (.iconst 0, 1) := by decide +kernel
theorem d_M_holds_69 : decode b_M_holds 69 = .ok (.istore_n 1, 1) := by decide +kernel
theorem d_M_holds_70 : decode b_M_holds 70 = .ok (.aload_n 0, 1) := by decide +kernel
theorem d_M_holds_71 : decode b_M_holds 71 = .ok (.getfield 106, 3) := by decide +kernel
theorem d_M_holds_74 : decode b_M_holds 74 = .ok (.bipush 6, 2) := by decide +kernel
theorem d_M_holds_76 : decode b_M_holds 76 = .ok (.aload_n 0, 1) := by decide +kernel
theorem d_M_holds_77 : decode b_M_holds 77 = .ok (.getfield 94, 3) := by decide +kernel
theorem d_M_holds_80 : decode b_M_holds 80 = .ok (.iload_n 2, 1) := by decide +kernel
theorem d_M_holds_81 : decode b_M_holds 81 = .ok (.iaload, 1) := by decide +kernel
theorem d_M_holds_82 : decode b_M_holds 82 = .ok (.imul, 1) := by decide +kernel
theorem d_M_holds_83 : decode b_M_holds 83 = .ok (.iload_n 3, 1) := by decide +kernel
theorem d_M_holds_84 : decode b_M_holds 84 = .ok (.iadd, 1) := by decide +kernel
theorem d_M_holds_85 : decode b_M_holds 85 = .ok (.dup2, 1) := by decide +kernel
theorem d_M_holds_86 : decode b_M_holds 86 = .ok (.iaload, 1) := by decide +kernel
theorem d_M_holds_87 : decode b_M_holds 87 = .ok (.iload 4, 2) := by decide +kernel
theorem d_M_holds_89 : decode b_M_holds 89 = .ok (.ifCond .ge 7, 3) := by decide +kernel
theorem d_M_holds_92 : decode b_M_holds 92 = .ok (.iconst 0, 1) := by decide +kernel
theorem d_M_holds_93 : decode b_M_holds 93 = .ok (.goto 12, 3) := by decide +kernel
theorem d_M_holds_96 : decode b_M_holds 96 = .ok (.iconst 1, 1) := by decide +kernel
theorem d_M_holds_97 : decode b_M_holds 97 = .ok (.aload_n 0, 1) := by decide +kernel
theorem d_M_holds_98 : decode b_M_holds 98 = .ok (.getfield 82, 3) := by decide +kernel
theorem d_M_holds_101 : decode b_M_holds 101 = .ok (.iload 4, 2) := by decide +kernel
theorem d_M_holds_103 : decode b_M_holds 103 = .ok (.iaload, 1) := by decide +kernel
theorem d_M_holds_104 : decode b_M_holds 104 = .ok (.ishl, 1) := by decide +kernel
theorem d_M_holds_105 : decode b_M_holds 105 = .ok (.ior, 1) := by decide +kernel
theorem d_M_holds_106 : decode b_M_holds 106 = .ok (.iastore, 1) := by decide +kernel
theorem d_M_holds_107 : decode b_M_holds 107 = .ok (.iinc 3 1, 3) := by decide +kernel
theorem d_M_holds_110 : decode b_M_holds 110 = .ok (.goto (-99), 3) := by decide +kernel
theorem d_M_holds_113 : decode b_M_holds 113 = .ok (.iconst 0, 1) := by decide +kernel
theorem d_M_holds_114 : decode b_M_holds 114 = .ok (.istore_n 3, 1) := by decide +kernel
theorem d_M_holds_115 : decode b_M_holds 115 = .ok (.iload_n 3, 1) := by decide +kernel
theorem d_M_holds_116 : decode b_M_holds 116 = .ok (.iconst 4, 1) := by decide +kernel
theorem d_M_holds_117 : decode b_M_holds 117 = .ok (.if_icmp .ge 38, 3) := by decide +kernel
theorem d_M_holds_120 : decode b_M_holds 120 = .ok (.iload_n 1, 1) := by decide +kernel
theorem d_M_holds_121 : decode b_M_holds 121 = .ok (.ifCond .eq 26, 3) := by decide +kernel
theorem d_M_holds_124 : decode b_M_holds 124 = .ok (.aload_n 0, 1) := by decide +kernel
theorem d_M_holds_125 : decode b_M_holds 125 = .ok (.aload_n 0, 1) := by decide +kernel
theorem d_M_holds_126 : decode b_M_holds 126 = .ok (.getfield 91, 3) := by decide +kernel
theorem d_M_holds_129 : decode b_M_holds 129 = .ok (.iload_n 3, 1) := by decide +kernel
theorem d_M_holds_130 : decode b_M_holds 130 = .ok (.iaload, 1) := by decide +kernel
theorem d_M_holds_131 : decode b_M_holds 131 = .ok (.aload_n 0, 1) := by decide +kernel
theorem d_M_holds_132 : decode b_M_holds 132 = .ok (.getfield 67, 3) := by decide +kernel
theorem d_M_holds_135 : decode b_M_holds 135 = .ok (.iload_n 3, 1) := by decide +kernel
theorem d_M_holds_136 : decode b_M_holds 136 = .ok (.iaload, 1) := by decide +kernel
theorem d_M_holds_137 : decode b_M_holds 137 = .ok (.invokevirtual 241, 3) := by decide +kernel
theorem d_M_holds_140 : decode b_M_holds 140 = .ok (.ifCond .eq 7, 3) := by decide +kernel
theorem d_M_holds_143 : decode b_M_holds 143 = .ok (.iconst 1, 1) := by decide +kernel
theorem d_M_holds_144 : decode b_M_holds 144 = .ok (.goto 4, 3) := by decide +kernel
theorem d_M_holds_147 : decode b_M_holds 147 = .ok (.iconst 0, 1) := by decide +kernel
theorem d_M_holds_148 : decode b_M_holds 148 = .ok (.istore_n 1, 1) := by decide +kernel
theorem d_M_holds_149 : decode b_M_holds 149 = .ok (.iinc 3 1, 3) := by decide +kernel
theorem d_M_holds_152 : decode b_M_holds 152 = .ok (.goto (-37), 3) := by decide +kernel
theorem d_M_holds_155 : decode b_M_holds 155 = .ok (.iconst 0, 1) := by decide +kernel
theorem d_M_holds_156 : decode b_M_holds 156 = .ok (.istore_n 3, 1) := by decide +kernel
theorem d_M_holds_157 : decode b_M_holds 157 = .ok (.iload_n 3, 1) := by decide +kernel
theorem d_M_holds_158 : decode b_M_holds 158 = .ok (.aload_n 0, 1) := by decide +kernel
theorem d_M_holds_159 : decode b_M_holds 159 = .ok (.getfield 219, 3) := by decide +kernel
theorem d_M_holds_162 : decode b_M_holds 162 = .ok (.if_icmp .ge 107, 3) := by decide +kernel
theorem d_M_holds_165 : decode b_M_holds 165 = .ok (.iload_n 1, 1) := by decide +kernel
theorem d_M_holds_166 : decode b_M_holds 166 = .ok (.ifCond .eq 31, 3) := by decide +kernel
theorem d_M_holds_169 : decode b_M_holds 169 = .ok (.aload_n 0, 1) := by decide +kernel
theorem d_M_holds_170 : decode b_M_holds 170 = .ok (.aload_n 0, 1) := by decide +kernel
theorem d_M_holds_171 : decode b_M_holds 171 = .ok (.getfield 88, 3) := by decide +kernel
theorem d_M_holds_174 : decode b_M_holds 174 = .ok (.iload_n 3, 1) := by decide +kernel
theorem d_M_holds_175 : decode b_M_holds 175 = .ok (.iaload, 1) := by decide +kernel
theorem d_M_holds_176 : decode b_M_holds 176 = .ok (.aload_n 0, 1) := by decide +kernel
theorem d_M_holds_177 : decode b_M_holds 177 = .ok (.getfield 61, 3) := by decide +kernel
theorem d_M_holds_180 : decode b_M_holds 180 = .ok (.aload_n 0, 1) := by decide +kernel
theorem d_M_holds_181 : decode b_M_holds 181 = .ok (.getfield 82, 3) := by decide +kernel
theorem d_M_holds_184 : decode b_M_holds 184 = .ok (.iload_n 3, 1) := by decide +kernel
theorem d_M_holds_185 : decode b_M_holds 185 = .ok (.iaload, 1) := by decide +kernel
theorem d_M_holds_186 : decode b_M_holds 186 = .ok (.iaload, 1) := by decide +kernel
theorem d_M_holds_187 : decode b_M_holds 187 = .ok (.invokevirtual 241, 3) := by decide +kernel
theorem d_M_holds_190 : decode b_M_holds 190 = .ok (.ifCond .eq 7, 3) := by decide +kernel
theorem d_M_holds_193 : decode b_M_holds 193 = .ok (.iconst 1, 1) := by decide +kernel
theorem d_M_holds_194 : decode b_M_holds 194 = .ok (.goto 4, 3) := by decide +kernel
theorem d_M_holds_197 : decode b_M_holds 197 = .ok (.iconst 0, 1) := by decide +kernel
theorem d_M_holds_198 : decode b_M_holds 198 = .ok (.istore_n 1, 1) := by decide +kernel
theorem d_M_holds_199 : decode b_M_holds 199 = .ok (.iconst 0, 1) := by decide +kernel
theorem d_M_holds_200 : decode b_M_holds 200 = .ok (.istore 4, 2) := by decide +kernel
theorem d_M_holds_202 : decode b_M_holds 202 = .ok (.iload 4, 2) := by decide +kernel
theorem d_M_holds_204 : decode b_M_holds 204 = .ok (.aload_n 0, 1) := by decide +kernel
theorem d_M_holds_205 : decode b_M_holds 205 = .ok (.getfield 113, 3) := by decide +kernel
theorem d_M_holds_208 : decode b_M_holds 208 = .ok (.if_icmp .ge 55, 3) := by decide +kernel
theorem d_M_holds_211 : decode b_M_holds 211 = .ok (.iload_n 1, 1) := by decide +kernel
theorem d_M_holds_212 : decode b_M_holds 212 = .ok (.ifCond .eq 43, 3) := by decide +kernel
theorem d_M_holds_215 : decode b_M_holds 215 = .ok (.aload_n 0, 1) := by decide +kernel
theorem d_M_holds_216 : decode b_M_holds 216 = .ok (.aload_n 0, 1) := by decide +kernel
theorem d_M_holds_217 : decode b_M_holds 217 = .ok (.getfield 85, 3) := by decide +kernel
theorem d_M_holds_220 : decode b_M_holds 220 = .ok (.bipush 8, 2) := by decide +kernel
theorem d_M_holds_222 : decode b_M_holds 222 = .ok (.iload_n 3, 1) := by decide +kernel
theorem d_M_holds_223 : decode b_M_holds 223 = .ok (.imul, 1) := by decide +kernel
theorem d_M_holds_224 : decode b_M_holds 224 = .ok (.iload 4, 2) := by decide +kernel
theorem d_M_holds_226 : decode b_M_holds 226 = .ok (.iadd, 1) := by decide +kernel
theorem d_M_holds_227 : decode b_M_holds 227 = .ok (.iaload, 1) := by decide +kernel
theorem d_M_holds_228 : decode b_M_holds 228 = .ok (.aload_n 0, 1) := by decide +kernel
theorem d_M_holds_229 : decode b_M_holds 229 = .ok (.getfield 55, 3) := by decide +kernel
theorem d_M_holds_232 : decode b_M_holds 232 = .ok (.bipush 8, 2) := by decide +kernel
theorem d_M_holds_234 : decode b_M_holds 234 = .ok (.aload_n 0, 1) := by decide +kernel
theorem d_M_holds_235 : decode b_M_holds 235 = .ok (.getfield 82, 3) := by decide +kernel
theorem d_M_holds_238 : decode b_M_holds 238 = .ok (.iload_n 3, 1) := by decide +kernel
theorem d_M_holds_239 : decode b_M_holds 239 = .ok (.iaload, 1) := by decide +kernel
theorem d_M_holds_240 : decode b_M_holds 240 = .ok (.imul, 1) := by decide +kernel
theorem d_M_holds_241 : decode b_M_holds 241 = .ok (.iload 4, 2) := by decide +kernel
theorem d_M_holds_243 : decode b_M_holds 243 = .ok (.iadd, 1) := by decide +kernel
theorem d_M_holds_244 : decode b_M_holds 244 = .ok (.iaload, 1) := by decide +kernel
theorem d_M_holds_245 : decode b_M_holds 245 = .ok (.invokevirtual 241, 3) := by decide +kernel
theorem d_M_holds_248 : decode b_M_holds 248 = .ok (.ifCond .eq 7, 3) := by decide +kernel
theorem d_M_holds_251 : decode b_M_holds 251 = .ok (.iconst 1, 1) := by decide +kernel
theorem d_M_holds_252 : decode b_M_holds 252 = .ok (.goto 4, 3) := by decide +kernel
theorem d_M_holds_255 : decode b_M_holds 255 = .ok (.iconst 0, 1) := by decide +kernel
theorem d_M_holds_256 : decode b_M_holds 256 = .ok (.istore_n 1, 1) := by decide +kernel
theorem d_M_holds_257 : decode b_M_holds 257 = .ok (.iinc 4 1, 3) := by decide +kernel
theorem d_M_holds_260 : decode b_M_holds 260 = .ok (.goto (-58), 3) := by decide +kernel
theorem d_M_holds_263 : decode b_M_holds 263 = .ok (.iinc 3 1, 3) := by decide +kernel
theorem d_M_holds_266 : decode b_M_holds 266 = .ok (.goto (-109), 3) := by decide +kernel
theorem d_M_holds_269 : decode b_M_holds 269 = .ok (.iload_n 1, 1) := by decide +kernel
theorem d_M_holds_270 : decode b_M_holds 270 = .ok (.ireturn, 1) := by decide +kernel
theorem d_M_isIn_0 : decode b_M_isIn 0 = .ok (.iload_n 1, 1) := by decide +kernel
theorem d_M_isIn_1 : decode b_M_isIn 1 = .ok (.ifCond .lt 17, 3) := by decide +kernel
theorem d_M_isIn_4 : decode b_M_isIn 4 = .ok (.iload_n 2, 1) := by decide +kernel
theorem d_M_isIn_5 : decode b_M_isIn 5 = .ok (.aload_n 0, 1) := by decide +kernel
theorem d_M_isIn_6 : decode b_M_isIn 6 = .ok (.getfield 82, 3) := by decide +kernel
theorem d_M_isIn_9 : decode b_M_isIn 9 = .ok (.iload_n 1, 1) := by decide +kernel
theorem d_M_isIn_10 : decode b_M_isIn 10 = .ok (.iaload, 1) := by decide +kernel
theorem d_M_isIn_11 : decode b_M_isIn 11 = .ok (.ishr, 1) := by decide +kernel
theorem d_M_isIn_12 : decode b_M_isIn 12 = .ok (.iconst 1, 1) := by decide +kernel
theorem d_M_isIn_13 : decode b_M_isIn 13 = .ok (.iand, 1) := by decide +kernel
theorem d_M_isIn_14 : decode b_M_isIn 14 = .ok (.iconst 1, 1) := by decide +kernel
theorem d_M_isIn_15 : decode b_M_isIn 15 = .ok (.if_icmp .ne 7, 3) := by decide +kernel
theorem d_M_isIn_18 : decode b_M_isIn 18 = .ok (.iconst 1, 1) := by decide +kernel
theorem d_M_isIn_19 : decode b_M_isIn 19 = .ok (.goto 4, 3) := by decide +kernel
theorem d_M_isIn_22 : decode b_M_isIn 22 = .ok (.iconst 0, 1) := by decide +kernel
theorem d_M_isIn_23 : decode b_M_isIn 23 = .ok (.ireturn, 1) := by decide +kernel
theorem d_M_met_0 : decode b_M_met 0 = .ok (.aload_n 0, 1) := by decide +kernel
theorem d_M_met_1 : decode b_M_met 1 = .ok (.iload_n 1, 1) := by decide +kernel
theorem d_M_met_2 : decode b_M_met 2 = .ok (.invokevirtual 150, 3) := by decide +kernel
theorem d_M_met_5 : decode b_M_met 5 = .ok (.ifCond .eq 24, 3) := by decide +kernel
theorem d_M_met_8 : decode b_M_met 8 = .ok (.iload_n 2, 1) := by decide +kernel
theorem d_M_met_9 : decode b_M_met 9 = .ok (.invokestatic 141, 3) := by decide +kernel
theorem d_M_met_12 : decode b_M_met 12 = .ok (.ifCond .eq 17, 3) := by decide +kernel
theorem d_M_met_15 : decode b_M_met 15 = .ok (.aload_n 0, 1) := by decide +kernel
theorem d_M_met_16 : decode b_M_met 16 = .ok (.getfield 106, 3) := by decide +kernel
theorem d_M_met_19 : decode b_M_met 19 = .ok (.bipush 6, 2) := by decide +kernel
theorem d_M_met_21 : decode b_M_met 21 = .ok (.iload_n 1, 1) := by decide +kernel
theorem d_M_met_22 : decode b_M_met 22 = .ok (.imul, 1) := by decide +kernel
theorem d_M_met_23 : decode b_M_met 23 = .ok (.iload_n 2, 1) := by decide +kernel
theorem d_M_met_24 : decode b_M_met 24 = .ok (.iadd, 1) := by decide +kernel
theorem d_M_met_25 : decode b_M_met 25 = .ok (.iaload, 1) := by decide +kernel
theorem d_M_met_26 : decode b_M_met 26 = .ok (.goto 4, 3) := by decide +kernel
theorem d_M_met_29 : decode b_M_met 29 = .ok (.iconst (-1), 1) := by decide +kernel
theorem d_M_met_30 : decode b_M_met 30 = .ok (.ireturn, 1) := by decide +kernel
theorem d_M_ran_0 : decode b_M_ran 0 = .ok (.iload_n 1, 1) := by decide +kernel
theorem d_M_ran_1 : decode b_M_ran 1 = .ok (.ifCond .ne 10, 3) := by decide +kernel
theorem d_M_ran_4 : decode b_M_ran 4 = .ok (.aload_n 0, 1) := by decide +kernel
theorem d_M_ran_5 : decode b_M_ran 5 = .ok (.getfield 219, 3) := by decide +kernel
theorem d_M_ran_8 : decode b_M_ran 8 = .ok (.goto 29, 3) := by decide +kernel
theorem d_M_ran_11 : decode b_M_ran 11 = .ok (.iload_n 1, 1) := by decide +kernel
theorem d_M_ran_12 : decode b_M_ran 12 = .ok (.iconst 1, 1) := by decide +kernel
theorem d_M_ran_13 : decode b_M_ran 13 = .ok (.if_icmp .ne 10, 3) := by decide +kernel
theorem d_M_ran_16 : decode b_M_ran 16 = .ok (.aload_n 0, 1) := by decide +kernel
theorem d_M_ran_17 : decode b_M_ran 17 = .ok (.getfield 222, 3) := by decide +kernel
theorem d_M_ran_20 : decode b_M_ran 20 = .ok (.goto 17, 3) := by decide +kernel
theorem d_M_ran_23 : decode b_M_ran 23 = .ok (.iload_n 1, 1) := by decide +kernel
theorem d_M_ran_24 : decode b_M_ran 24 = .ok (.iconst 2, 1) := by decide +kernel
theorem d_M_ran_25 : decode b_M_ran 25 = .ok (.if_icmp .ne 10, 3) := by decide +kernel
theorem d_M_ran_28 : decode b_M_ran 28 = .ok (.aload_n 0, 1) := by decide +kernel
theorem d_M_ran_29 : decode b_M_ran 29 = .ok (.getfield 225, 3) := by decide +kernel
theorem d_M_ran_32 : decode b_M_ran 32 = .ok (.goto 5, 3) := by decide +kernel
theorem d_M_ran_35 : decode b_M_ran 35 = .ok (.bipush (-2), 2) := by decide +kernel
theorem d_M_ran_37 : decode b_M_ran 37 = .ok (.ireturn, 1) := by decide +kernel
