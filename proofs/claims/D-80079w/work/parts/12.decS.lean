theorem d_Se_init_0 : decode b_Se_init 0 = .ok (.aload_n 0, 1) := by decide +kernel
theorem d_Se_init_1 : decode b_Se_init 1 = .ok (.aload_n 1, 1) := by decide +kernel
theorem d_Se_init_2 : decode b_Se_init 2 = .ok (.putfield 3, 3) := by decide +kernel
theorem d_Se_init_5 : decode b_Se_init 5 = .ok (.aload_n 0, 1) := by decide +kernel
theorem d_Se_init_6 : decode b_Se_init 6 = .ok (.invokespecial 9, 3) := by decide +kernel
theorem d_Se_init_9 : decode b_Se_init 9 = .ok (.aload_n 0, 1) := by decide +kernel
theorem d_Se_init_10 : decode b_Se_init 10 = .ok (.new 15, 3) := by decide +kernel
theorem d_Se_init_13 : decode b_Se_init 13 = .ok (.dup, 1) := by decide +kernel
theorem d_Se_init_14 : decode b_Se_init 14 = .ok (.invokespecial 17, 3) := by decide +kernel
theorem d_Se_init_17 : decode b_Se_init 17 = .ok (.putfield 18, 3) := by decide +kernel
theorem d_Se_init_20 : decode b_Se_init 20 = .ok (.aload_n 0, 1) := by decide +kernel
theorem d_Se_init_21 : decode b_Se_init 21 = .ok (.new 15, 3) := by decide +kernel
theorem d_Se_init_24 : decode b_Se_init 24 = .ok (.dup, 1) := by decide +kernel
theorem d_Se_init_25 : decode b_Se_init 25 = .ok (.invokespecial 17, 3) := by decide +kernel
theorem d_Se_init_28 : decode b_Se_init 28 = .ok (.putfield 22, 3) := by decide +kernel
theorem d_Se_init_31 : decode b_Se_init 31 = .ok (.aload_n 0, 1) := by decide +kernel
theorem d_Se_init_32 : decode b_Se_init 32 = .ok (.new 15, 3) := by decide +kernel
theorem d_Se_init_35 : decode b_Se_init 35 = .ok (.dup, 1) := by decide +kernel
theorem d_Se_init_36 : decode b_Se_init 36 = .ok (.invokespecial 17, 3) := by decide +kernel
theorem d_Se_init_39 : decode b_Se_init 39 = .ok (.putfield 25, 3) := by decide +kernel
theorem d_Se_init_42 : decode b_Se_init 42 = .ok (.aload_n 0, 1) := by decide +kernel
theorem d_Se_init_43 : decode b_Se_init 43 = .ok (.new 15, 3) := by decide +kernel
theorem d_Se_init_46 : decode b_Se_init 46 = .ok (.dup, 1) := by decide +kernel
theorem d_Se_init_47 : decode b_Se_init 47 = .ok (.invokespecial 17, 3) := by decide +kernel
theorem d_Se_init_50 : decode b_Se_init 50 = .ok (.putfield 28, 3) := by decide +kernel
theorem d_Se_init_53 : decode b_Se_init 53 = .ok (.aload_n 0, 1) := by decide +kernel
theorem d_Se_init_54 : decode b_Se_init 54 = .ok (.sipush 1200, 3) := by decide +kernel
theorem d_Se_init_57 : decode b_Se_init 57 = .ok (.newarray .int, 2) := by decide +kernel
theorem d_Se_init_59 : decode b_Se_init 59 = .ok (.putfield 31, 3) := by decide +kernel
theorem d_Se_init_62 : decode b_Se_init 62 = .ok (.iconst 0, 1) := by decide +kernel
theorem d_Se_init_63 : decode b_Se_init 63 = .ok (.istore_n 2, 1) := by decide +kernel
theorem d_Se_init_64 : decode b_Se_init 64 = .ok (.iload_n 2, 1) := by decide +kernel
theorem d_Se_init_65 : decode b_Se_init 65 = .ok (.sipush 210, 3) := by decide +kernel
theorem d_Se_init_68 : decode b_Se_init 68 = .ok (.if_icmp .ge 26, 3) := by decide +kernel
theorem d_Se_init_71 : decode b_Se_init 71 = .ok (.aload_n 0, 1) := by decide +kernel
theorem d_Se_init_72 : decode b_Se_init 72 = .ok (.getfield 18, 3) := by decide +kernel
theorem d_Se_init_75 : decode b_Se_init 75 = .ok (.new 35, 3) := by decide +kernel
theorem d_Se_init_78 : decode b_Se_init 78 = .ok (.dup, 1) := by decide +kernel
theorem d_Se_init_79 : decode b_Se_init 79 = .ok (.invokespecial 37, 3) := by decide +kernel
theorem d_Se_init_82 : decode b_Se_init 82 = .ok (.invokeinterface 38 2, 5) := by decide +kernel
theorem d_Se_init_87 : decode b_Se_init 87 = .ok (.pop, 1) := by decide +kernel
theorem d_Se_init_88 : decode b_Se_init 88 = .ok (.iinc 2 1, 3) := by decide +kernel
theorem d_Se_init_91 : decode b_Se_init 91 = .ok (.goto (-27), 3) := by decide +kernel
theorem d_Se_init_94 : decode b_Se_init 94 = .ok (.iconst 0, 1) := by decide +kernel
theorem d_Se_init_95 : decode b_Se_init 95 = .ok (.istore_n 2, 1) := by decide +kernel
theorem d_Se_init_96 : decode b_Se_init 96 = .ok (.iload_n 2, 1) := by decide +kernel
theorem d_Se_init_97 : decode b_Se_init 97 = .ok (.sipush 160, 3) := by decide +kernel
theorem d_Se_init_100 : decode b_Se_init 100 = .ok (.if_icmp .ge 26, 3) := by decide +kernel
theorem d_Se_init_103 : decode b_Se_init 103 = .ok (.aload_n 0, 1) := by decide +kernel
theorem d_Se_init_104 : decode b_Se_init 104 = .ok (.getfield 22, 3) := by decide +kernel
theorem d_Se_init_107 : decode b_Se_init 107 = .ok (.new 44, 3) := by decide +kernel
theorem d_Se_init_110 : decode b_Se_init 110 = .ok (.dup, 1) := by decide +kernel
theorem d_Se_init_111 : decode b_Se_init 111 = .ok (.invokespecial 46, 3) := by decide +kernel
theorem d_Se_init_114 : decode b_Se_init 114 = .ok (.invokeinterface 38 2, 5) := by decide +kernel
theorem d_Se_init_119 : decode b_Se_init 119 = .ok (.pop, 1) := by decide +kernel
theorem d_Se_init_120 : decode b_Se_init 120 = .ok (.iinc 2 1, 3) := by decide +kernel
theorem d_Se_init_123 : decode b_Se_init 123 = .ok (.goto (-27), 3) := by decide +kernel
theorem d_Se_init_126 : decode b_Se_init 126 = .ok (.iconst 0, 1) := by decide +kernel
theorem d_Se_init_127 : decode b_Se_init 127 = .ok (.istore_n 2, 1) := by decide +kernel
theorem d_Se_init_128 : decode b_Se_init 128 = .ok (.iload_n 2, 1) := by decide +kernel
theorem d_Se_init_129 : decode b_Se_init 129 = .ok (.bipush 20, 2) := by decide +kernel
theorem d_Se_init_131 : decode b_Se_init 131 = .ok (.if_icmp .ge 26, 3) := by decide +kernel
theorem d_Se_init_134 : decode b_Se_init 134 = .ok (.aload_n 0, 1) := by decide +kernel
theorem d_Se_init_135 : decode b_Se_init 135 = .ok (.getfield 25, 3) := by decide +kernel
theorem d_Se_init_138 : decode b_Se_init 138 = .ok (.new 44, 3) := by decide +kernel
theorem d_Se_init_141 : decode b_Se_init 141 = .ok (.dup, 1) := by decide +kernel
theorem d_Se_init_142 : decode b_Se_init 142 = .ok (.invokespecial 46, 3) := by decide +kernel
theorem d_Se_init_145 : decode b_Se_init 145 = .ok (.invokeinterface 38 2, 5) := by decide +kernel
theorem d_Se_init_150 : decode b_Se_init 150 = .ok (.pop, 1) := by decide +kernel
theorem d_Se_init_151 : decode b_Se_init 151 = .ok (.iinc 2 1, 3) := by decide +kernel
theorem d_Se_init_154 : decode b_Se_init 154 = .ok (.goto (-26), 3) := by decide +kernel
theorem d_Se_init_157 : decode b_Se_init 157 = .ok (.iconst 0, 1) := by decide +kernel
theorem d_Se_init_158 : decode b_Se_init 158 = .ok (.istore_n 2, 1) := by decide +kernel
theorem d_Se_init_159 : decode b_Se_init 159 = .ok (.iload_n 2, 1) := by decide +kernel
theorem d_Se_init_160 : decode b_Se_init 160 = .ok (.iconst 4, 1) := by decide +kernel
theorem d_Se_init_161 : decode b_Se_init 161 = .ok (.if_icmp .ge 26, 3) := by decide +kernel
theorem d_Se_init_164 : decode b_Se_init 164 = .ok (.aload_n 0, 1) := by decide +kernel
theorem d_Se_init_165 : decode b_Se_init 165 = .ok (.getfield 28, 3) := by decide +kernel
theorem d_Se_init_168 : decode b_Se_init 168 = .ok (.new 44, 3) := by decide +kernel
theorem d_Se_init_171 : decode b_Se_init 171 = .ok (.dup, 1) := by decide +kernel
theorem d_Se_init_172 : decode b_Se_init 172 = .ok (.invokespecial 46, 3) := by decide +kernel
theorem d_Se_init_175 : decode b_Se_init 175 = .ok (.invokeinterface 38 2, 5) := by decide +kernel
theorem d_Se_init_180 : decode b_Se_init 180 = .ok (.pop, 1) := by decide +kernel
theorem d_Se_init_181 : decode b_Se_init 181 = .ok (.iinc 2 1, 3) := by decide +kernel
theorem d_Se_init_184 : decode b_Se_init 184 = .ok (.goto (-25), 3) := by decide +kernel
theorem d_Se_init_187 : decode b_Se_init 187 = .ok (.return_, 1) := by decide +kernel
theorem d_Se_find_0 : decode b_Se_find 0 = .ok (.aload_n 0, 1) := by decide +kernel
theorem d_Se_find_1 : decode b_Se_find 1 = .ok (.invokevirtual 97, 3) := by decide +kernel
theorem d_Se_find_4 : decode b_Se_find 4 = .ok (.aload_n 0, 1) := by decide +kernel
theorem d_Se_find_5 : decode b_Se_find 5 = .ok (.iconst 0, 1) := by decide +kernel
theorem d_Se_find_6 : decode b_Se_find 6 = .ok (.putfield 94, 3) := by decide +kernel
theorem d_Se_find_9 : decode b_Se_find 9 = .ok (.aload_n 0, 1) := by decide +kernel
theorem d_Se_find_10 : decode b_Se_find 10 = .ok (.getfield 3, 3) := by decide +kernel
theorem d_Se_find_13 : decode b_Se_find 13 = .ok (.getfield 72, 3) := by decide +kernel
theorem d_Se_find_16 : decode b_Se_find 16 = .ok (.ifCond .ne 4, 3) := by decide +kernel
theorem d_Se_find_19 : decode b_Se_find 19 = .ok (.return_, 1) := by decide +kernel
theorem d_Se_find_20 : decode b_Se_find 20 = .ok (.aload_n 0, 1) := by decide +kernel
theorem d_Se_find_21 : decode b_Se_find 21 = .ok (.iconst 0, 1) := by decide +kernel
theorem d_Se_find_22 : decode b_Se_find 22 = .ok (.iconst 0, 1) := by decide +kernel
theorem d_Se_find_23 : decode b_Se_find 23 = .ok (.invokevirtual 76, 3) := by decide +kernel
theorem d_Se_find_26 : decode b_Se_find 26 = .ok (.iconst 1, 1) := by decide +kernel
theorem d_Se_find_27 : decode b_Se_find 27 = .ok (.putfield 55, 3) := by decide +kernel
theorem d_Se_find_30 : decode b_Se_find 30 = .ok (.aload_n 0, 1) := by decide +kernel
theorem d_Se_find_31 : decode b_Se_find 31 = .ok (.iconst 0, 1) := by decide +kernel
theorem d_Se_find_32 : decode b_Se_find 32 = .ok (.iconst 0, 1) := by decide +kernel
theorem d_Se_find_33 : decode b_Se_find 33 = .ok (.invokevirtual 76, 3) := by decide +kernel
theorem d_Se_find_36 : decode b_Se_find 36 = .ok (.iconst 1, 1) := by decide +kernel
theorem d_Se_find_37 : decode b_Se_find 37 = .ok (.putfield 59, 3) := by decide +kernel
theorem d_Se_find_40 : decode b_Se_find 40 = .ok (.iconst 1, 1) := by decide +kernel
theorem d_Se_find_41 : decode b_Se_find 41 = .ok (.istore_n 1, 1) := by decide +kernel
theorem d_Se_find_42 : decode b_Se_find 42 = .ok (.iload_n 1, 1) := by decide +kernel
theorem d_Se_find_43 : decode b_Se_find 43 = .ok (.ifCond .eq 135, 3) := by decide +kernel
theorem d_Se_find_46 : decode b_Se_find 46 = .ok (.iconst 0, 1) := by decide +kernel
theorem d_Se_find_47 : decode b_Se_find 47 = .ok (.istore_n 2, 1) := by decide +kernel
theorem d_Se_find_48 : decode b_Se_find 48 = .ok (.iload_n 2, 1) := by decide +kernel
theorem d_Se_find_49 : decode b_Se_find 49 = .ok (.aload_n 0, 1) := by decide +kernel
theorem d_Se_find_50 : decode b_Se_find 50 = .ok (.getfield 3, 3) := by decide +kernel
theorem d_Se_find_53 : decode b_Se_find 53 = .ok (.getfield 72, 3) := by decide +kernel
theorem d_Se_find_56 : decode b_Se_find 56 = .ok (.if_icmp .ge 104, 3) := by decide +kernel
theorem d_Se_find_59 : decode b_Se_find 59 = .ok (.iconst 0, 1) := by decide +kernel
theorem d_Se_find_60 : decode b_Se_find 60 = .ok (.istore_n 3, 1) := by decide +kernel
theorem d_Se_find_61 : decode b_Se_find 61 = .ok (.iload_n 3, 1) := by decide +kernel
theorem d_Se_find_62 : decode b_Se_find 62 = .ok (.bipush 21, 2) := by decide +kernel
theorem d_Se_find_64 : decode b_Se_find 64 = .ok (.if_icmp .ge 90, 3) := by decide +kernel
theorem d_Se_find_67 : decode b_Se_find 67 = .ok (.aload_n 0, 1) := by decide +kernel
theorem d_Se_find_68 : decode b_Se_find 68 = .ok (.iload_n 2, 1) := by decide +kernel
theorem d_Se_find_69 : decode b_Se_find 69 = .ok (.iload_n 3, 1) := by decide +kernel
theorem d_Se_find_70 : decode b_Se_find 70 = .ok (.invokevirtual 76, 3) := by decide +kernel
theorem d_Se_find_73 : decode b_Se_find 73 = .ok (.astore 4, 2) := by decide +kernel
theorem d_Se_find_75 : decode b_Se_find 75 = .ok (.aload 4, 2) := by decide +kernel
theorem d_Se_find_77 : decode b_Se_find 77 = .ok (.getfield 55, 3) := by decide +kernel
theorem d_Se_find_80 : decode b_Se_find 80 = .ok (.ifCond .ne 6, 3) := by decide +kernel
theorem d_Se_find_83 : decode b_Se_find 83 = .ok (.goto 65, 3) := by decide +kernel
theorem d_Se_find_86 : decode b_Se_find 86 = .ok (.aload_n 0, 1) := by decide +kernel
theorem d_Se_find_87 : decode b_Se_find 87 = .ok (.getfield 3, 3) := by decide +kernel
theorem d_Se_find_90 : decode b_Se_find 90 = .ok (.getfield 98, 3) := by decide +kernel
theorem d_Se_find_93 : decode b_Se_find 93 = .ok (.iload_n 2, 1) := by decide +kernel
theorem d_Se_find_94 : decode b_Se_find 94 = .ok (.invokeinterface 47 2, 5) := by decide +kernel
theorem d_Se_find_99 : decode b_Se_find 99 = .ok (.checkcast 39, 3) := by decide +kernel
theorem d_Se_find_102 : decode b_Se_find 102 = .ok (.astore 5, 2) := by decide +kernel
theorem d_Se_find_104 : decode b_Se_find 104 = .ok (.iconst 0, 1) := by decide +kernel
theorem d_Se_find_105 : decode b_Se_find 105 = .ok (.istore 6, 2) := by decide +kernel
theorem d_Se_find_107 : decode b_Se_find 107 = .ok (.iload 6, 2) := by decide +kernel
theorem d_Se_find_109 : decode b_Se_find 109 = .ok (.aload 5, 2) := by decide +kernel
theorem d_Se_find_111 : decode b_Se_find 111 = .ok (.invokeinterface 51 1, 5) := by decide +kernel
theorem d_Se_find_116 : decode b_Se_find 116 = .ok (.if_icmp .ge 32, 3) := by decide +kernel
theorem d_Se_find_119 : decode b_Se_find 119 = .ok (.aload_n 0, 1) := by decide +kernel
theorem d_Se_find_120 : decode b_Se_find 120 = .ok (.aload 5, 2) := by decide +kernel
theorem d_Se_find_122 : decode b_Se_find 122 = .ok (.iload 6, 2) := by decide +kernel
theorem d_Se_find_124 : decode b_Se_find 124 = .ok (.invokeinterface 47 2, 5) := by decide +kernel
theorem d_Se_find_129 : decode b_Se_find 129 = .ok (.checkcast 101, 3) := by decide +kernel
theorem d_Se_find_132 : decode b_Se_find 132 = .ok (.aload 4, 2) := by decide +kernel
theorem d_Se_find_134 : decode b_Se_find 134 = .ok (.aload 4, 2) := by decide +kernel
theorem d_Se_find_136 : decode b_Se_find 136 = .ok (.getfield 59, 3) := by decide +kernel
theorem d_Se_find_139 : decode b_Se_find 139 = .ok (.invokevirtual 103, 3) := by decide +kernel
theorem d_Se_find_142 : decode b_Se_find 142 = .ok (.iinc 6 1, 3) := by decide +kernel
theorem d_Se_find_145 : decode b_Se_find 145 = .ok (.goto (-38), 3) := by decide +kernel
theorem d_Se_find_148 : decode b_Se_find 148 = .ok (.iinc 3 1, 3) := by decide +kernel
theorem d_Se_find_151 : decode b_Se_find 151 = .ok (.goto (-90), 3) := by decide +kernel
theorem d_Se_find_154 : decode b_Se_find 154 = .ok (.iinc 2 1, 3) := by decide +kernel
theorem d_Se_find_157 : decode b_Se_find 157 = .ok (.goto (-109), 3) := by decide +kernel
theorem d_Se_find_160 : decode b_Se_find 160 = .ok (.aload_n 0, 1) := by decide +kernel
theorem d_Se_find_161 : decode b_Se_find 161 = .ok (.dup, 1) := by decide +kernel
theorem d_Se_find_162 : decode b_Se_find 162 = .ok (.getfield 94, 3) := by decide +kernel
theorem d_Se_find_165 : decode b_Se_find 165 = .ok (.iconst 1, 1) := by decide +kernel
theorem d_Se_find_166 : decode b_Se_find 166 = .ok (.iadd, 1) := by decide +kernel
theorem d_Se_find_167 : decode b_Se_find 167 = .ok (.putfield 94, 3) := by decide +kernel
theorem d_Se_find_170 : decode b_Se_find 170 = .ok (.aload_n 0, 1) := by decide +kernel
theorem d_Se_find_171 : decode b_Se_find 171 = .ok (.invokevirtual 107, 3) := by decide +kernel
theorem d_Se_find_174 : decode b_Se_find 174 = .ok (.istore_n 1, 1) := by decide +kernel
theorem d_Se_find_175 : decode b_Se_find 175 = .ok (.goto (-133), 3) := by decide +kernel
theorem d_Se_find_178 : decode b_Se_find 178 = .ok (.aload_n 0, 1) := by decide +kernel
theorem d_Se_find_179 : decode b_Se_find 179 = .ok (.dup, 1) := by decide +kernel
theorem d_Se_find_180 : decode b_Se_find 180 = .ok (.getfield 94, 3) := by decide +kernel
theorem d_Se_find_183 : decode b_Se_find 183 = .ok (.iconst 1, 1) := by decide +kernel
theorem d_Se_find_184 : decode b_Se_find 184 = .ok (.isub, 1) := by decide +kernel
theorem d_Se_find_185 : decode b_Se_find 185 = .ok (.putfield 94, 3) := by decide +kernel
theorem d_Se_find_188 : decode b_Se_find 188 = .ok (.return_, 1) := by decide +kernel
theorem d_Se_clear_0 : decode b_Se_clear 0 = .ok (.iconst 0, 1) := by decide +kernel
theorem d_Se_clear_1 : decode b_Se_clear 1 = .ok (.istore_n 1, 1) := by decide +kernel
theorem d_Se_clear_2 : decode b_Se_clear 2 = .ok (.iload_n 1, 1) := by decide +kernel
theorem d_Se_clear_3 : decode b_Se_clear 3 = .ok (.aload_n 0, 1) := by decide +kernel
theorem d_Se_clear_4 : decode b_Se_clear 4 = .ok (.getfield 18, 3) := by decide +kernel
theorem d_Se_clear_7 : decode b_Se_clear 7 = .ok (.invokeinterface 51 1, 5) := by decide +kernel
theorem d_Se_clear_12 : decode b_Se_clear 12 = .ok (.if_icmp .ge 60, 3) := by decide +kernel
theorem d_Se_clear_15 : decode b_Se_clear 15 = .ok (.aload_n 0, 1) := by decide +kernel
theorem d_Se_clear_16 : decode b_Se_clear 16 = .ok (.getfield 18, 3) := by decide +kernel
theorem d_Se_clear_19 : decode b_Se_clear 19 = .ok (.iload_n 1, 1) := by decide +kernel
theorem d_Se_clear_20 : decode b_Se_clear 20 = .ok (.invokeinterface 47 2, 5) := by decide +kernel
theorem d_Se_clear_25 : decode b_Se_clear 25 = .ok (.checkcast 35, 3) := by decide +kernel
theorem d_Se_clear_28 : decode b_Se_clear 28 = .ok (.astore_n 2, 1) := by decide +kernel
theorem d_Se_clear_29 : decode b_Se_clear 29 = .ok (.aload_n 2, 1) := by decide +kernel
theorem d_Se_clear_30 : decode b_Se_clear 30 = .ok (.iconst 0, 1) := by decide +kernel
theorem d_Se_clear_31 : decode b_Se_clear 31 = .ok (.putfield 55, 3) := by decide +kernel
theorem d_Se_clear_34 : decode b_Se_clear 34 = .ok (.aload_n 2, 1) := by decide +kernel
theorem d_Se_clear_35 : decode b_Se_clear 35 = .ok (.iconst 0, 1) := by decide +kernel
theorem d_Se_clear_36 : decode b_Se_clear 36 = .ok (.putfield 59, 3) := by decide +kernel
theorem d_Se_clear_39 : decode b_Se_clear 39 = .ok (.aload_n 2, 1) := by decide +kernel
theorem d_Se_clear_40 : decode b_Se_clear 40 = .ok (.iconst 0, 1) := by decide +kernel
theorem d_Se_clear_41 : decode b_Se_clear 41 = .ok (.putfield 62, 3) := by decide +kernel
theorem d_Se_clear_44 : decode b_Se_clear 44 = .ok (.iconst 0, 1) := by decide +kernel
theorem d_Se_clear_45 : decode b_Se_clear 45 = .ok (.istore_n 3, 1) := by decide +kernel
theorem d_Se_clear_46 : decode b_Se_clear 46 = .ok (.iload_n 3, 1) := by decide +kernel
theorem d_Se_clear_47 : decode b_Se_clear 47 = .ok (.bipush 6, 2) := by decide +kernel
theorem d_Se_clear_49 : decode b_Se_clear 49 = .ok (.if_icmp .ge 17, 3) := by decide +kernel
theorem d_Se_clear_52 : decode b_Se_clear 52 = .ok (.aload_n 2, 1) := by decide +kernel
theorem d_Se_clear_53 : decode b_Se_clear 53 = .ok (.iload_n 3, 1) := by decide +kernel
theorem d_Se_clear_54 : decode b_Se_clear 54 = .ok (.invokevirtual 65, 3) := by decide +kernel
theorem d_Se_clear_57 : decode b_Se_clear 57 = .ok (.invokevirtual 69, 3) := by decide +kernel
theorem d_Se_clear_60 : decode b_Se_clear 60 = .ok (.iinc 3 1, 3) := by decide +kernel
theorem d_Se_clear_63 : decode b_Se_clear 63 = .ok (.goto (-17), 3) := by decide +kernel
theorem d_Se_clear_66 : decode b_Se_clear 66 = .ok (.iinc 1 1, 3) := by decide +kernel
theorem d_Se_clear_69 : decode b_Se_clear 69 = .ok (.goto (-67), 3) := by decide +kernel
theorem d_Se_clear_72 : decode b_Se_clear 72 = .ok (.iconst 0, 1) := by decide +kernel
theorem d_Se_clear_73 : decode b_Se_clear 73 = .ok (.istore_n 1, 1) := by decide +kernel
theorem d_Se_clear_74 : decode b_Se_clear 74 = .ok (.iload_n 1, 1) := by decide +kernel
theorem d_Se_clear_75 : decode b_Se_clear 75 = .ok (.aload_n 0, 1) := by decide +kernel
theorem d_Se_clear_76 : decode b_Se_clear 76 = .ok (.getfield 22, 3) := by decide +kernel
theorem d_Se_clear_79 : decode b_Se_clear 79 = .ok (.invokeinterface 51 1, 5) := by decide +kernel
theorem d_Se_clear_84 : decode b_Se_clear 84 = .ok (.if_icmp .ge 25, 3) := by decide +kernel
theorem d_Se_clear_87 : decode b_Se_clear 87 = .ok (.aload_n 0, 1) := by decide +kernel
theorem d_Se_clear_88 : decode b_Se_clear 88 = .ok (.getfield 22, 3) := by decide +kernel
theorem d_Se_clear_91 : decode b_Se_clear 91 = .ok (.iload_n 1, 1) := by decide +kernel
theorem d_Se_clear_92 : decode b_Se_clear 92 = .ok (.invokeinterface 47 2, 5) := by decide +kernel
theorem d_Se_clear_97 : decode b_Se_clear 97 = .ok (.checkcast 44, 3) := by decide +kernel
theorem d_Se_clear_100 : decode b_Se_clear 100 = .ok (.invokevirtual 69, 3) := by decide +kernel
theorem d_Se_clear_103 : decode b_Se_clear 103 = .ok (.iinc 1 1, 3) := by decide +kernel
theorem d_Se_clear_106 : decode b_Se_clear 106 = .ok (.goto (-32), 3) := by decide +kernel
theorem d_Se_clear_109 : decode b_Se_clear 109 = .ok (.iconst 0, 1) := by decide +kernel
theorem d_Se_clear_110 : decode b_Se_clear 110 = .ok (.istore_n 1, 1) := by decide +kernel
theorem d_Se_clear_111 : decode b_Se_clear 111 = .ok (.iload_n 1, 1) := by decide +kernel
theorem d_Se_clear_112 : decode b_Se_clear 112 = .ok (.bipush 20, 2) := by decide +kernel
theorem d_Se_clear_114 : decode b_Se_clear 114 = .ok (.if_icmp .ge 25, 3) := by decide +kernel
theorem d_Se_clear_117 : decode b_Se_clear 117 = .ok (.aload_n 0, 1) := by decide +kernel
theorem d_Se_clear_118 : decode b_Se_clear 118 = .ok (.getfield 25, 3) := by decide +kernel
theorem d_Se_clear_121 : decode b_Se_clear 121 = .ok (.iload_n 1, 1) := by decide +kernel
theorem d_Se_clear_122 : decode b_Se_clear 122 = .ok (.invokeinterface 47 2, 5) := by decide +kernel
theorem d_Se_clear_127 : decode b_Se_clear 127 = .ok (.checkcast 44, 3) := by decide +kernel
theorem d_Se_clear_130 : decode b_Se_clear 130 = .ok (.invokevirtual 69, 3) := by decide +kernel
theorem d_Se_clear_133 : decode b_Se_clear 133 = .ok (.iinc 1 1, 3) := by decide +kernel
theorem d_Se_clear_136 : decode b_Se_clear 136 = .ok (.goto (-25), 3) := by decide +kernel
theorem d_Se_clear_139 : decode b_Se_clear 139 = .ok (.iconst 0, 1) := by decide +kernel
theorem d_Se_clear_140 : decode b_Se_clear 140 = .ok (.istore_n 1, 1) := by decide +kernel
theorem d_Se_clear_141 : decode b_Se_clear 141 = .ok (.iload_n 1, 1) := by decide +kernel
theorem d_Se_clear_142 : decode b_Se_clear 142 = .ok (.iconst 4, 1) := by decide +kernel
theorem d_Se_clear_143 : decode b_Se_clear 143 = .ok (.if_icmp .ge 25, 3) := by decide +kernel
theorem d_Se_clear_146 : decode b_Se_clear 146 = .ok (.aload_n 0, 1) := by decide +kernel
theorem d_Se_clear_147 : decode b_Se_clear 147 = .ok (.getfield 28, 3) := by decide +kernel
theorem d_Se_clear_150 : decode b_Se_clear 150 = .ok (.iload_n 1, 1) := by decide +kernel
theorem d_Se_clear_151 : decode b_Se_clear 151 = .ok (.invokeinterface 47 2, 5) := by decide +kernel
theorem d_Se_clear_156 : decode b_Se_clear 156 = .ok (.checkcast 44, 3) := by decide +kernel
theorem d_Se_clear_159 : decode b_Se_clear 159 = .ok (.invokevirtual 69, 3) := by decide +kernel
theorem d_Se_clear_162 : decode b_Se_clear 162 = .ok (.iinc 1 1, 3) := by decide +kernel
theorem d_Se_clear_165 : decode b_Se_clear 165 = .ok (.goto (-24), 3) := by decide +kernel
theorem d_Se_clear_168 : decode b_Se_clear 168 = .ok (.iconst 0, 1) := by decide +kernel
theorem d_Se_clear_169 : decode b_Se_clear 169 = .ok (.istore_n 1, 1) := by decide +kernel
theorem d_Se_clear_170 : decode b_Se_clear 170 = .ok (.iload_n 1, 1) := by decide +kernel
theorem d_Se_clear_171 : decode b_Se_clear 171 = .ok (.aload_n 0, 1) := by decide +kernel
theorem d_Se_clear_172 : decode b_Se_clear 172 = .ok (.getfield 31, 3) := by decide +kernel
theorem d_Se_clear_175 : decode b_Se_clear 175 = .ok (.arraylength, 1) := by decide +kernel
theorem d_Se_clear_176 : decode b_Se_clear 176 = .ok (.if_icmp .ge 16, 3) := by decide +kernel
theorem d_Se_clear_179 : decode b_Se_clear 179 = .ok (.aload_n 0, 1) := by decide +kernel
theorem d_Se_clear_180 : decode b_Se_clear 180 = .ok (.getfield 31, 3) := by decide +kernel
theorem d_Se_clear_183 : decode b_Se_clear 183 = .ok (.iload_n 1, 1) := by decide +kernel
theorem d_Se_clear_184 : decode b_Se_clear 184 = .ok (.iconst (-1), 1) := by decide +kernel
theorem d_Se_clear_185 : decode b_Se_clear 185 = .ok (.iastore, 1) := by decide +kernel
theorem d_Se_clear_186 : decode b_Se_clear 186 = .ok (.iinc 1 1, 3) := by decide +kernel
theorem d_Se_clear_189 : decode b_Se_clear 189 = .ok (.goto (-19), 3) := by decide +kernel
theorem d_Se_clear_192 : decode b_Se_clear 192 = .ok (.return_, 1) := by decide +kernel
theorem d_Se_body_0 : decode b_Se_body 0 = .ok (.aload_n 0, 1) := by decide +kernel
theorem d_Se_body_1 : decode b_Se_body 1 = .ok (.getfield 18, 3) := by decide +kernel
theorem d_Se_body_4 : decode b_Se_body 4 = .ok (.bipush 21, 2) := by decide +kernel
theorem d_Se_body_6 : decode b_Se_body 6 = .ok (.iload_n 1, 1) := by decide +kernel
theorem d_Se_body_7 : decode b_Se_body 7 = .ok (.imul, 1) := by decide +kernel
theorem d_Se_body_8 : decode b_Se_body 8 = .ok (.iload_n 2, 1) := by decide +kernel
theorem d_Se_body_9 : decode b_Se_body 9 = .ok (.iadd, 1) := by decide +kernel
theorem d_Se_body_10 : decode b_Se_body 10 = .ok (.invokeinterface 47 2, 5) := by decide +kernel
theorem d_Se_body_15 : decode b_Se_body 15 = .ok (.checkcast 35, 3) := by decide +kernel
theorem d_Se_body_18 : decode b_Se_body 18 = .ok (.areturn, 1) := by decide +kernel
theorem d_Se_carry_0 : decode b_Se_carry 0 = .ok (.aload_n 1, 1) := by decide +kernel
theorem d_Se_carry_1 : decode b_Se_carry 1 = .ok (.getfield 108, 3) := by decide +kernel
theorem d_Se_carry_4 : decode b_Se_carry 4 = .ok (.tableswitch 485 0 8 #[52, 72, 115, 193, 271, 307, 340, 373, 419], 52) := by decide +kernel
theorem d_Se_carry_56 : decode b_Se_carry 56 = .ok (.aload_n 2, 1) := by decide +kernel
theorem d_Se_carry_57 : decode b_Se_carry 57 = .ok (.aload_n 1, 1) := by decide +kernel
theorem d_Se_carry_58 : decode b_Se_carry 58 = .ok (.getfield 111, 3) := by decide +kernel
theorem d_Se_carry_61 : decode b_Se_carry 61 = .ok (.invokevirtual 65, 3) := by decide +kernel
theorem d_Se_carry_64 : decode b_Se_carry 64 = .ok (.iconst 1, 1) := by decide +kernel
theorem d_Se_carry_65 : decode b_Se_carry 65 = .ok (.aload_n 1, 1) := by decide +kernel
theorem d_Se_carry_66 : decode b_Se_carry 66 = .ok (.getfield 114, 3) := by decide +kernel
theorem d_Se_carry_69 : decode b_Se_carry 69 = .ok (.ishl, 1) := by decide +kernel
theorem d_Se_carry_70 : decode b_Se_carry 70 = .ok (.invokevirtual 117, 3) := by decide +kernel
theorem d_Se_carry_73 : decode b_Se_carry 73 = .ok (.goto 479, 3) := by decide +kernel
theorem d_Se_carry_76 : decode b_Se_carry 76 = .ok (.aload_n 2, 1) := by decide +kernel
theorem d_Se_carry_77 : decode b_Se_carry 77 = .ok (.aload_n 1, 1) := by decide +kernel
theorem d_Se_carry_78 : decode b_Se_carry 78 = .ok (.getfield 111, 3) := by decide +kernel
theorem d_Se_carry_81 : decode b_Se_carry 81 = .ok (.invokevirtual 65, 3) := by decide +kernel
theorem d_Se_carry_84 : decode b_Se_carry 84 = .ok (.iload_n 3, 1) := by decide +kernel
theorem d_Se_carry_85 : decode b_Se_carry 85 = .ok (.ifCond .eq 17, 3) := by decide +kernel
theorem d_Se_carry_88 : decode b_Se_carry 88 = .ok (.aload_n 2, 1) := by decide +kernel
theorem d_Se_carry_89 : decode b_Se_carry 89 = .ok (.aload_n 1, 1) := by decide +kernel
theorem d_Se_carry_90 : decode b_Se_carry 90 = .ok (.getfield 120, 3) := by decide +kernel
theorem d_Se_carry_93 : decode b_Se_carry 93 = .ok (.invokevirtual 65, 3) := by decide +kernel
theorem d_Se_carry_96 : decode b_Se_carry 96 = .ok (.getfield 123, 3) := by decide +kernel
theorem d_Se_carry_99 : decode b_Se_carry 99 = .ok (.goto 14, 3) := by decide +kernel
theorem d_Se_carry_102 : decode b_Se_carry 102 = .ok (.aload_n 2, 1) := by decide +kernel
theorem d_Se_carry_103 : decode b_Se_carry 103 = .ok (.aload_n 1, 1) := by decide +kernel
theorem d_Se_carry_104 : decode b_Se_carry 104 = .ok (.getfield 120, 3) := by decide +kernel
theorem d_Se_carry_107 : decode b_Se_carry 107 = .ok (.invokevirtual 65, 3) := by decide +kernel
theorem d_Se_carry_110 : decode b_Se_carry 110 = .ok (.getfield 84, 3) := by decide +kernel
theorem d_Se_carry_113 : decode b_Se_carry 113 = .ok (.invokevirtual 117, 3) := by decide +kernel
theorem d_Se_carry_116 : decode b_Se_carry 116 = .ok (.goto 436, 3) := by decide +kernel
theorem d_Se_carry_119 : decode b_Se_carry 119 = .ok (.iconst 0, 1) := by decide +kernel
theorem d_Se_carry_120 : decode b_Se_carry 120 = .ok (.istore 4, 2) := by decide +kernel
theorem d_Se_carry_122 : decode b_Se_carry 122 = .ok (.iload 4, 2) := by decide +kernel
theorem d_Se_carry_124 : decode b_Se_carry 124 = .ok (.aload_n 0, 1) := by decide +kernel
theorem d_Se_carry_125 : decode b_Se_carry 125 = .ok (.getfield 3, 3) := by decide +kernel
theorem d_Se_carry_128 : decode b_Se_carry 128 = .ok (.getfield 91, 3) := by decide +kernel
theorem d_Se_carry_131 : decode b_Se_carry 131 = .ok (.if_icmp .ge 63, 3) := by decide +kernel
theorem d_Se_carry_134 : decode b_Se_carry 134 = .ok (.aload_n 0, 1) := by decide +kernel
theorem d_Se_carry_135 : decode b_Se_carry 135 = .ok (.aload_n 2, 1) := by decide +kernel
theorem d_Se_carry_136 : decode b_Se_carry 136 = .ok (.aload_n 1, 1) := by decide +kernel
theorem d_Se_carry_137 : decode b_Se_carry 137 = .ok (.getfield 120, 3) := by decide +kernel
theorem d_Se_carry_140 : decode b_Se_carry 140 = .ok (.iload 4, 2) := by decide +kernel
theorem d_Se_carry_142 : decode b_Se_carry 142 = .ok (.invokevirtual 126, 3) := by decide +kernel
theorem d_Se_carry_145 : decode b_Se_carry 145 = .ok (.ifCond .eq 43, 3) := by decide +kernel
theorem d_Se_carry_148 : decode b_Se_carry 148 = .ok (.aload_n 0, 1) := by decide +kernel
theorem d_Se_carry_149 : decode b_Se_carry 149 = .ok (.getfield 3, 3) := by decide +kernel
theorem d_Se_carry_152 : decode b_Se_carry 152 = .ok (.iload 4, 2) := by decide +kernel
theorem d_Se_carry_154 : decode b_Se_carry 154 = .ok (.aload_n 1, 1) := by decide +kernel
theorem d_Se_carry_155 : decode b_Se_carry 155 = .ok (.getfield 130, 3) := by decide +kernel
theorem d_Se_carry_158 : decode b_Se_carry 158 = .ok (.invokevirtual 133, 3) := by decide +kernel
theorem d_Se_carry_161 : decode b_Se_carry 161 = .ok (.ifCond .eq 27, 3) := by decide +kernel
theorem d_Se_carry_164 : decode b_Se_carry 164 = .ok (.aload_n 2, 1) := by decide +kernel
theorem d_Se_carry_165 : decode b_Se_carry 165 = .ok (.aload_n 1, 1) := by decide +kernel
theorem d_Se_carry_166 : decode b_Se_carry 166 = .ok (.getfield 111, 3) := by decide +kernel
theorem d_Se_carry_169 : decode b_Se_carry 169 = .ok (.invokevirtual 65, 3) := by decide +kernel
theorem d_Se_carry_172 : decode b_Se_carry 172 = .ok (.aload_n 0, 1) := by decide +kernel
theorem d_Se_carry_173 : decode b_Se_carry 173 = .ok (.iload 4, 2) := by decide +kernel
theorem d_Se_carry_175 : decode b_Se_carry 175 = .ok (.aload_n 1, 1) := by decide +kernel
theorem d_Se_carry_176 : decode b_Se_carry 176 = .ok (.getfield 130, 3) := by decide +kernel
theorem d_Se_carry_179 : decode b_Se_carry 179 = .ok (.invokevirtual 137, 3) := by decide +kernel
theorem d_Se_carry_182 : decode b_Se_carry 182 = .ok (.getfield 123, 3) := by decide +kernel
theorem d_Se_carry_185 : decode b_Se_carry 185 = .ok (.invokevirtual 117, 3) := by decide +kernel
theorem d_Se_carry_188 : decode b_Se_carry 188 = .ok (.iinc 4 1, 3) := by decide +kernel
theorem d_Se_carry_191 : decode b_Se_carry 191 = .ok (.goto (-69), 3) := by decide +kernel
theorem d_Se_carry_194 : decode b_Se_carry 194 = .ok (.goto 358, 3) := by decide +kernel
theorem d_Se_carry_197 : decode b_Se_carry 197 = .ok (.iconst 0, 1) := by decide +kernel
theorem d_Se_carry_198 : decode b_Se_carry 198 = .ok (.istore 4, 2) := by decide +kernel
theorem d_Se_carry_200 : decode b_Se_carry 200 = .ok (.iload 4, 2) := by decide +kernel
theorem d_Se_carry_202 : decode b_Se_carry 202 = .ok (.aload_n 0, 1) := by decide +kernel
theorem d_Se_carry_203 : decode b_Se_carry 203 = .ok (.getfield 3, 3) := by decide +kernel
theorem d_Se_carry_206 : decode b_Se_carry 206 = .ok (.getfield 91, 3) := by decide +kernel
theorem d_Se_carry_209 : decode b_Se_carry 209 = .ok (.if_icmp .ge 63, 3) := by decide +kernel
theorem d_Se_carry_212 : decode b_Se_carry 212 = .ok (.aload_n 0, 1) := by decide +kernel
theorem d_Se_carry_213 : decode b_Se_carry 213 = .ok (.aload_n 2, 1) := by decide +kernel
theorem d_Se_carry_214 : decode b_Se_carry 214 = .ok (.aload_n 1, 1) := by decide +kernel
theorem d_Se_carry_215 : decode b_Se_carry 215 = .ok (.getfield 111, 3) := by decide +kernel
theorem d_Se_carry_218 : decode b_Se_carry 218 = .ok (.iload 4, 2) := by decide +kernel
theorem d_Se_carry_220 : decode b_Se_carry 220 = .ok (.invokevirtual 126, 3) := by decide +kernel
theorem d_Se_carry_223 : decode b_Se_carry 223 = .ok (.ifCond .eq 43, 3) := by decide +kernel
theorem d_Se_carry_226 : decode b_Se_carry 226 = .ok (.aload_n 0, 1) := by decide +kernel
theorem d_Se_carry_227 : decode b_Se_carry 227 = .ok (.getfield 3, 3) := by decide +kernel
theorem d_Se_carry_230 : decode b_Se_carry 230 = .ok (.iload 4, 2) := by decide +kernel
theorem d_Se_carry_232 : decode b_Se_carry 232 = .ok (.aload_n 1, 1) := by decide +kernel
theorem d_Se_carry_233 : decode b_Se_carry 233 = .ok (.getfield 130, 3) := by decide +kernel
theorem d_Se_carry_236 : decode b_Se_carry 236 = .ok (.invokevirtual 133, 3) := by decide +kernel
theorem d_Se_carry_239 : decode b_Se_carry 239 = .ok (.ifCond .eq 27, 3) := by decide +kernel
theorem d_Se_carry_242 : decode b_Se_carry 242 = .ok (.aload_n 0, 1) := by decide +kernel
theorem d_Se_carry_243 : decode b_Se_carry 243 = .ok (.iload 4, 2) := by decide +kernel
theorem d_Se_carry_245 : decode b_Se_carry 245 = .ok (.aload_n 1, 1) := by decide +kernel
theorem d_Se_carry_246 : decode b_Se_carry 246 = .ok (.getfield 130, 3) := by decide +kernel
theorem d_Se_carry_249 : decode b_Se_carry 249 = .ok (.invokevirtual 137, 3) := by decide +kernel
theorem d_Se_carry_252 : decode b_Se_carry 252 = .ok (.aload_n 2, 1) := by decide +kernel
theorem d_Se_carry_253 : decode b_Se_carry 253 = .ok (.aload_n 1, 1) := by decide +kernel
theorem d_Se_carry_254 : decode b_Se_carry 254 = .ok (.getfield 120, 3) := by decide +kernel
theorem d_Se_carry_257 : decode b_Se_carry 257 = .ok (.invokevirtual 65, 3) := by decide +kernel
theorem d_Se_carry_260 : decode b_Se_carry 260 = .ok (.getfield 123, 3) := by decide +kernel
theorem d_Se_carry_263 : decode b_Se_carry 263 = .ok (.invokevirtual 117, 3) := by decide +kernel
theorem d_Se_carry_266 : decode b_Se_carry 266 = .ok (.iinc 4 1, 3) := by decide +kernel
theorem d_Se_carry_269 : decode b_Se_carry 269 = .ok (.goto (-69), 3) := by decide +kernel
theorem d_Se_carry_272 : decode b_Se_carry 272 = .ok (.goto 280, 3) := by decide +kernel
theorem d_Se_carry_275 : decode b_Se_carry 275 = .ok (.aload_n 2, 1) := by decide +kernel
theorem d_Se_carry_276 : decode b_Se_carry 276 = .ok (.aload_n 1, 1) := by decide +kernel
theorem d_Se_carry_277 : decode b_Se_carry 277 = .ok (.getfield 111, 3) := by decide +kernel
theorem d_Se_carry_280 : decode b_Se_carry 280 = .ok (.invokevirtual 65, 3) := by decide +kernel
theorem d_Se_carry_283 : decode b_Se_carry 283 = .ok (.aload_n 0, 1) := by decide +kernel
theorem d_Se_carry_284 : decode b_Se_carry 284 = .ok (.getfield 3, 3) := by decide +kernel
theorem d_Se_carry_287 : decode b_Se_carry 287 = .ok (.aload_n 2, 1) := by decide +kernel
theorem d_Se_carry_288 : decode b_Se_carry 288 = .ok (.aload_n 1, 1) := by decide +kernel
theorem d_Se_carry_289 : decode b_Se_carry 289 = .ok (.getfield 120, 3) := by decide +kernel
theorem d_Se_carry_292 : decode b_Se_carry 292 = .ok (.invokevirtual 65, 3) := by decide +kernel
theorem d_Se_carry_295 : decode b_Se_carry 295 = .ok (.getfield 123, 3) := by decide +kernel
theorem d_Se_carry_298 : decode b_Se_carry 298 = .ok (.aload_n 1, 1) := by decide +kernel
theorem d_Se_carry_299 : decode b_Se_carry 299 = .ok (.getfield 130, 3) := by decide +kernel
theorem d_Se_carry_302 : decode b_Se_carry 302 = .ok (.invokevirtual 141, 3) := by decide +kernel
theorem d_Se_carry_305 : decode b_Se_carry 305 = .ok (.invokevirtual 117, 3) := by decide +kernel
theorem d_Se_carry_308 : decode b_Se_carry 308 = .ok (.goto 244, 3) := by decide +kernel
theorem d_Se_carry_311 : decode b_Se_carry 311 = .ok (.aload_n 2, 1) := by decide +kernel
theorem d_Se_carry_312 : decode b_Se_carry 312 = .ok (.aload_n 1, 1) := by decide +kernel
theorem d_Se_carry_313 : decode b_Se_carry 313 = .ok (.getfield 111, 3) := by decide +kernel
theorem d_Se_carry_316 : decode b_Se_carry 316 = .ok (.invokevirtual 65, 3) := by decide +kernel
theorem d_Se_carry_319 : decode b_Se_carry 319 = .ok (.aload_n 0, 1) := by decide +kernel
theorem d_Se_carry_320 : decode b_Se_carry 320 = .ok (.getfield 28, 3) := by decide +kernel
theorem d_Se_carry_323 : decode b_Se_carry 323 = .ok (.aload_n 1, 1) := by decide +kernel
theorem d_Se_carry_324 : decode b_Se_carry 324 = .ok (.getfield 120, 3) := by decide +kernel
theorem d_Se_carry_327 : decode b_Se_carry 327 = .ok (.invokeinterface 47 2, 5) := by decide +kernel
theorem d_Se_carry_332 : decode b_Se_carry 332 = .ok (.checkcast 44, 3) := by decide +kernel
theorem d_Se_carry_335 : decode b_Se_carry 335 = .ok (.getfield 123, 3) := by decide +kernel
theorem d_Se_carry_338 : decode b_Se_carry 338 = .ok (.invokevirtual 117, 3) := by decide +kernel
theorem d_Se_carry_341 : decode b_Se_carry 341 = .ok (.goto 211, 3) := by decide +kernel
theorem d_Se_carry_344 : decode b_Se_carry 344 = .ok (.aload_n 0, 1) := by decide +kernel
theorem d_Se_carry_345 : decode b_Se_carry 345 = .ok (.getfield 28, 3) := by decide +kernel
theorem d_Se_carry_348 : decode b_Se_carry 348 = .ok (.aload_n 1, 1) := by decide +kernel
theorem d_Se_carry_349 : decode b_Se_carry 349 = .ok (.getfield 111, 3) := by decide +kernel
theorem d_Se_carry_352 : decode b_Se_carry 352 = .ok (.invokeinterface 47 2, 5) := by decide +kernel
theorem d_Se_carry_357 : decode b_Se_carry 357 = .ok (.checkcast 44, 3) := by decide +kernel
theorem d_Se_carry_360 : decode b_Se_carry 360 = .ok (.aload_n 2, 1) := by decide +kernel
theorem d_Se_carry_361 : decode b_Se_carry 361 = .ok (.aload_n 1, 1) := by decide +kernel
theorem d_Se_carry_362 : decode b_Se_carry 362 = .ok (.getfield 120, 3) := by decide +kernel
theorem d_Se_carry_365 : decode b_Se_carry 365 = .ok (.invokevirtual 65, 3) := by decide +kernel
theorem d_Se_carry_368 : decode b_Se_carry 368 = .ok (.getfield 123, 3) := by decide +kernel
theorem d_Se_carry_371 : decode b_Se_carry 371 = .ok (.invokevirtual 117, 3) := by decide +kernel
theorem d_Se_carry_374 : decode b_Se_carry 374 = .ok (.goto 178, 3) := by decide +kernel
theorem d_Se_carry_377 : decode b_Se_carry 377 = .ok (.iconst 0, 1) := by decide +kernel
theorem d_Se_carry_378 : decode b_Se_carry 378 = .ok (.istore 4, 2) := by decide +kernel
theorem d_Se_carry_380 : decode b_Se_carry 380 = .ok (.iload 4, 2) := by decide +kernel
theorem d_Se_carry_382 : decode b_Se_carry 382 = .ok (.aload_n 0, 1) := by decide +kernel
theorem d_Se_carry_383 : decode b_Se_carry 383 = .ok (.getfield 3, 3) := by decide +kernel
theorem d_Se_carry_386 : decode b_Se_carry 386 = .ok (.getfield 91, 3) := by decide +kernel
theorem d_Se_carry_389 : decode b_Se_carry 389 = .ok (.if_icmp .ge 31, 3) := by decide +kernel
theorem d_Se_carry_392 : decode b_Se_carry 392 = .ok (.aload_n 0, 1) := by decide +kernel
theorem d_Se_carry_393 : decode b_Se_carry 393 = .ok (.aload_n 2, 1) := by decide +kernel
theorem d_Se_carry_394 : decode b_Se_carry 394 = .ok (.aload_n 1, 1) := by decide +kernel
theorem d_Se_carry_395 : decode b_Se_carry 395 = .ok (.getfield 120, 3) := by decide +kernel
theorem d_Se_carry_398 : decode b_Se_carry 398 = .ok (.iload 4, 2) := by decide +kernel
theorem d_Se_carry_400 : decode b_Se_carry 400 = .ok (.invokevirtual 126, 3) := by decide +kernel
theorem d_Se_carry_403 : decode b_Se_carry 403 = .ok (.ifCond .eq 11, 3) := by decide +kernel
theorem d_Se_carry_406 : decode b_Se_carry 406 = .ok (.aload_n 0, 1) := by decide +kernel
theorem d_Se_carry_407 : decode b_Se_carry 407 = .ok (.aload_n 1, 1) := by decide +kernel
theorem d_Se_carry_408 : decode b_Se_carry 408 = .ok (.aload_n 2, 1) := by decide +kernel
theorem d_Se_carry_409 : decode b_Se_carry 409 = .ok (.iload 4, 2) := by decide +kernel
theorem d_Se_carry_411 : decode b_Se_carry 411 = .ok (.invokevirtual 145, 3) := by decide +kernel
theorem d_Se_carry_414 : decode b_Se_carry 414 = .ok (.iinc 4 1, 3) := by decide +kernel
theorem d_Se_carry_417 : decode b_Se_carry 417 = .ok (.goto (-37), 3) := by decide +kernel
theorem d_Se_carry_420 : decode b_Se_carry 420 = .ok (.goto 132, 3) := by decide +kernel
theorem d_Se_carry_423 : decode b_Se_carry 423 = .ok (.iconst 0, 1) := by decide +kernel
theorem d_Se_carry_424 : decode b_Se_carry 424 = .ok (.istore 4, 2) := by decide +kernel
theorem d_Se_carry_426 : decode b_Se_carry 426 = .ok (.iload 4, 2) := by decide +kernel
theorem d_Se_carry_428 : decode b_Se_carry 428 = .ok (.aload_n 0, 1) := by decide +kernel
theorem d_Se_carry_429 : decode b_Se_carry 429 = .ok (.getfield 3, 3) := by decide +kernel
theorem d_Se_carry_432 : decode b_Se_carry 432 = .ok (.getfield 91, 3) := by decide +kernel
theorem d_Se_carry_435 : decode b_Se_carry 435 = .ok (.if_icmp .ge 51, 3) := by decide +kernel
theorem d_Se_carry_438 : decode b_Se_carry 438 = .ok (.aload_n 0, 1) := by decide +kernel
theorem d_Se_carry_439 : decode b_Se_carry 439 = .ok (.aload_n 2, 1) := by decide +kernel
theorem d_Se_carry_440 : decode b_Se_carry 440 = .ok (.aload_n 1, 1) := by decide +kernel
theorem d_Se_carry_441 : decode b_Se_carry 441 = .ok (.getfield 120, 3) := by decide +kernel
theorem d_Se_carry_444 : decode b_Se_carry 444 = .ok (.iload 4, 2) := by decide +kernel
theorem d_Se_carry_446 : decode b_Se_carry 446 = .ok (.invokevirtual 126, 3) := by decide +kernel
theorem d_Se_carry_449 : decode b_Se_carry 449 = .ok (.ifCond .eq 31, 3) := by decide +kernel
theorem d_Se_carry_452 : decode b_Se_carry 452 = .ok (.aload_n 2, 1) := by decide +kernel
theorem d_Se_carry_453 : decode b_Se_carry 453 = .ok (.aload_n 1, 1) := by decide +kernel
theorem d_Se_carry_454 : decode b_Se_carry 454 = .ok (.getfield 111, 3) := by decide +kernel
theorem d_Se_carry_457 : decode b_Se_carry 457 = .ok (.invokevirtual 65, 3) := by decide +kernel
theorem d_Se_carry_460 : decode b_Se_carry 460 = .ok (.aload_n 0, 1) := by decide +kernel
theorem d_Se_carry_461 : decode b_Se_carry 461 = .ok (.getfield 25, 3) := by decide +kernel
theorem d_Se_carry_464 : decode b_Se_carry 464 = .ok (.iload 4, 2) := by decide +kernel
theorem d_Se_carry_466 : decode b_Se_carry 466 = .ok (.invokeinterface 47 2, 5) := by decide +kernel
theorem d_Se_carry_471 : decode b_Se_carry 471 = .ok (.checkcast 44, 3) := by decide +kernel
theorem d_Se_carry_474 : decode b_Se_carry 474 = .ok (.getfield 123, 3) := by decide +kernel
theorem d_Se_carry_477 : decode b_Se_carry 477 = .ok (.invokevirtual 117, 3) := by decide +kernel
theorem d_Se_carry_480 : decode b_Se_carry 480 = .ok (.iinc 4 1, 3) := by decide +kernel
theorem d_Se_carry_483 : decode b_Se_carry 483 = .ok (.goto (-57), 3) := by decide +kernel
theorem d_Se_carry_486 : decode b_Se_carry 486 = .ok (.goto 66, 3) := by decide +kernel
theorem d_Se_carry_489 : decode b_Se_carry 489 = .ok (.iconst 0, 1) := by decide +kernel
theorem d_Se_carry_490 : decode b_Se_carry 490 = .ok (.istore 4, 2) := by decide +kernel
theorem d_Se_carry_492 : decode b_Se_carry 492 = .ok (.iload 4, 2) := by decide +kernel
theorem d_Se_carry_494 : decode b_Se_carry 494 = .ok (.aload_n 0, 1) := by decide +kernel
theorem d_Se_carry_495 : decode b_Se_carry 495 = .ok (.getfield 3, 3) := by decide +kernel
theorem d_Se_carry_498 : decode b_Se_carry 498 = .ok (.getfield 91, 3) := by decide +kernel
theorem d_Se_carry_501 : decode b_Se_carry 501 = .ok (.if_icmp .ge 51, 3) := by decide +kernel
theorem d_Se_carry_504 : decode b_Se_carry 504 = .ok (.aload_n 0, 1) := by decide +kernel
theorem d_Se_carry_505 : decode b_Se_carry 505 = .ok (.aload_n 2, 1) := by decide +kernel
theorem d_Se_carry_506 : decode b_Se_carry 506 = .ok (.aload_n 1, 1) := by decide +kernel
theorem d_Se_carry_507 : decode b_Se_carry 507 = .ok (.getfield 111, 3) := by decide +kernel
theorem d_Se_carry_510 : decode b_Se_carry 510 = .ok (.iload 4, 2) := by decide +kernel
theorem d_Se_carry_512 : decode b_Se_carry 512 = .ok (.invokevirtual 126, 3) := by decide +kernel
theorem d_Se_carry_515 : decode b_Se_carry 515 = .ok (.ifCond .eq 31, 3) := by decide +kernel
theorem d_Se_carry_518 : decode b_Se_carry 518 = .ok (.aload_n 0, 1) := by decide +kernel
theorem d_Se_carry_519 : decode b_Se_carry 519 = .ok (.getfield 25, 3) := by decide +kernel
theorem d_Se_carry_522 : decode b_Se_carry 522 = .ok (.iload 4, 2) := by decide +kernel
theorem d_Se_carry_524 : decode b_Se_carry 524 = .ok (.invokeinterface 47 2, 5) := by decide +kernel
theorem d_Se_carry_529 : decode b_Se_carry 529 = .ok (.checkcast 44, 3) := by decide +kernel
theorem d_Se_carry_532 : decode b_Se_carry 532 = .ok (.aload_n 2, 1) := by decide +kernel
theorem d_Se_carry_533 : decode b_Se_carry 533 = .ok (.aload_n 1, 1) := by decide +kernel
theorem d_Se_carry_534 : decode b_Se_carry 534 = .ok (.getfield 120, 3) := by decide +kernel
theorem d_Se_carry_537 : decode b_Se_carry 537 = .ok (.invokevirtual 65, 3) := by decide +kernel
theorem d_Se_carry_540 : decode b_Se_carry 540 = .ok (.getfield 123, 3) := by decide +kernel
theorem d_Se_carry_543 : decode b_Se_carry 543 = .ok (.invokevirtual 117, 3) := by decide +kernel
theorem d_Se_carry_546 : decode b_Se_carry 546 = .ok (.iinc 4 1, 3) := by decide +kernel
theorem d_Se_carry_549 : decode b_Se_carry 549 = .ok (.goto (-57), 3) := by decide +kernel
theorem d_Se_carry_552 : decode b_Se_carry 552 = .ok (.return_, 1) := by decide +kernel
theorem d_Se_has_0 : decode b_Se_has 0 = .ok (.aload_n 1, 1) := by decide +kernel
theorem d_Se_has_1 : decode b_Se_has 1 = .ok (.iload_n 2, 1) := by decide +kernel
theorem d_Se_has_2 : decode b_Se_has 2 = .ok (.invokevirtual 65, 3) := by decide +kernel
theorem d_Se_has_5 : decode b_Se_has 5 = .ok (.getfield 123, 3) := by decide +kernel
theorem d_Se_has_8 : decode b_Se_has 8 = .ok (.iload_n 3, 1) := by decide +kernel
theorem d_Se_has_9 : decode b_Se_has 9 = .ok (.ishr, 1) := by decide +kernel
theorem d_Se_has_10 : decode b_Se_has 10 = .ok (.iconst 1, 1) := by decide +kernel
theorem d_Se_has_11 : decode b_Se_has 11 = .ok (.iand, 1) := by decide +kernel
theorem d_Se_has_12 : decode b_Se_has 12 = .ok (.iconst 1, 1) := by decide +kernel
theorem d_Se_has_13 : decode b_Se_has 13 = .ok (.if_icmp .ne 7, 3) := by decide +kernel
theorem d_Se_has_16 : decode b_Se_has 16 = .ok (.iconst 1, 1) := by decide +kernel
theorem d_Se_has_17 : decode b_Se_has 17 = .ok (.goto 4, 3) := by decide +kernel
theorem d_Se_has_20 : decode b_Se_has 20 = .ok (.iconst 0, 1) := by decide +kernel
theorem d_Se_has_21 : decode b_Se_has 21 = .ok (.ireturn, 1) := by decide +kernel
theorem d_Se_field_0 : decode b_Se_field 0 = .ok (.aload_n 0, 1) := by decide +kernel
theorem d_Se_field_1 : decode b_Se_field 1 = .ok (.getfield 22, 3) := by decide +kernel
theorem d_Se_field_4 : decode b_Se_field 4 = .ok (.bipush 8, 2) := by decide +kernel
theorem d_Se_field_6 : decode b_Se_field 6 = .ok (.iload_n 1, 1) := by decide +kernel
theorem d_Se_field_7 : decode b_Se_field 7 = .ok (.imul, 1) := by decide +kernel
theorem d_Se_field_8 : decode b_Se_field 8 = .ok (.iload_n 2, 1) := by decide +kernel
theorem d_Se_field_9 : decode b_Se_field 9 = .ok (.iadd, 1) := by decide +kernel
theorem d_Se_field_10 : decode b_Se_field 10 = .ok (.invokeinterface 47 2, 5) := by decide +kernel
theorem d_Se_field_15 : decode b_Se_field 15 = .ok (.checkcast 44, 3) := by decide +kernel
theorem d_Se_field_18 : decode b_Se_field 18 = .ok (.areturn, 1) := by decide +kernel
theorem d_Se_call_0 : decode b_Se_call 0 = .ok (.aload_n 0, 1) := by decide +kernel
theorem d_Se_call_1 : decode b_Se_call 1 = .ok (.getfield 3, 3) := by decide +kernel
theorem d_Se_call_4 : decode b_Se_call 4 = .ok (.aload_n 0, 1) := by decide +kernel
theorem d_Se_call_5 : decode b_Se_call 5 = .ok (.getfield 3, 3) := by decide +kernel
theorem d_Se_call_8 : decode b_Se_call 8 = .ok (.getfield 149, 3) := by decide +kernel
theorem d_Se_call_11 : decode b_Se_call 11 = .ok (.iload_n 3, 1) := by decide +kernel
theorem d_Se_call_12 : decode b_Se_call 12 = .ok (.iaload, 1) := by decide +kernel
theorem d_Se_call_13 : decode b_Se_call 13 = .ok (.aload_n 1, 1) := by decide +kernel
theorem d_Se_call_14 : decode b_Se_call 14 = .ok (.getfield 130, 3) := by decide +kernel
theorem d_Se_call_17 : decode b_Se_call 17 = .ok (.invokevirtual 152, 3) := by decide +kernel
theorem d_Se_call_20 : decode b_Se_call 20 = .ok (.istore 4, 2) := by decide +kernel
theorem d_Se_call_22 : decode b_Se_call 22 = .ok (.iload 4, 2) := by decide +kernel
theorem d_Se_call_24 : decode b_Se_call 24 = .ok (.ifCond .ge 4, 3) := by decide +kernel
theorem d_Se_call_27 : decode b_Se_call 27 = .ok (.return_, 1) := by decide +kernel
theorem d_Se_call_28 : decode b_Se_call 28 = .ok (.aload_n 0, 1) := by decide +kernel
theorem d_Se_call_29 : decode b_Se_call 29 = .ok (.iload 4, 2) := by decide +kernel
theorem d_Se_call_31 : decode b_Se_call 31 = .ok (.aload_n 0, 1) := by decide +kernel
theorem d_Se_call_32 : decode b_Se_call 32 = .ok (.getfield 3, 3) := by decide +kernel
theorem d_Se_call_35 : decode b_Se_call 35 = .ok (.getfield 155, 3) := by decide +kernel
theorem d_Se_call_38 : decode b_Se_call 38 = .ok (.ifCond .ne 7, 3) := by decide +kernel
theorem d_Se_call_41 : decode b_Se_call 41 = .ok (.iconst 0, 1) := by decide +kernel
theorem d_Se_call_42 : decode b_Se_call 42 = .ok (.goto 6, 3) := by decide +kernel
theorem d_Se_call_45 : decode b_Se_call 45 = .ok (.iconst 1, 1) := by decide +kernel
theorem d_Se_call_46 : decode b_Se_call 46 = .ok (.iload_n 3, 1) := by decide +kernel
theorem d_Se_call_47 : decode b_Se_call 47 = .ok (.iadd, 1) := by decide +kernel
theorem d_Se_call_48 : decode b_Se_call 48 = .ok (.invokevirtual 76, 3) := by decide +kernel
theorem d_Se_call_51 : decode b_Se_call 51 = .ok (.astore 5, 2) := by decide +kernel
theorem d_Se_call_53 : decode b_Se_call 53 = .ok (.aload 5, 2) := by decide +kernel
theorem d_Se_call_55 : decode b_Se_call 55 = .ok (.dup, 1) := by decide +kernel
theorem d_Se_call_56 : decode b_Se_call 56 = .ok (.getfield 62, 3) := by decide +kernel
theorem d_Se_call_59 : decode b_Se_call 59 = .ok (.aload 5, 2) := by decide +kernel
theorem d_Se_call_61 : decode b_Se_call 61 = .ok (.getfield 55, 3) := by decide +kernel
theorem d_Se_call_64 : decode b_Se_call 64 = .ok (.ifCond .ne 7, 3) := by decide +kernel
theorem d_Se_call_67 : decode b_Se_call 67 = .ok (.iconst 1, 1) := by decide +kernel
theorem d_Se_call_68 : decode b_Se_call 68 = .ok (.goto 4, 3) := by decide +kernel
theorem d_Se_call_71 : decode b_Se_call 71 = .ok (.iconst 0, 1) := by decide +kernel
theorem d_Se_call_72 : decode b_Se_call 72 = .ok (.ior, 1) := by decide +kernel
theorem d_Se_call_73 : decode b_Se_call 73 = .ok (.putfield 62, 3) := by decide +kernel
theorem d_Se_call_76 : decode b_Se_call 76 = .ok (.aload 5, 2) := by decide +kernel
theorem d_Se_call_78 : decode b_Se_call 78 = .ok (.iconst 0, 1) := by decide +kernel
theorem d_Se_call_79 : decode b_Se_call 79 = .ok (.invokevirtual 65, 3) := by decide +kernel
theorem d_Se_call_82 : decode b_Se_call 82 = .ok (.iconst 1, 1) := by decide +kernel
theorem d_Se_call_83 : decode b_Se_call 83 = .ok (.iload_n 3, 1) := by decide +kernel
theorem d_Se_call_84 : decode b_Se_call 84 = .ok (.ishl, 1) := by decide +kernel
theorem d_Se_call_85 : decode b_Se_call 85 = .ok (.invokevirtual 117, 3) := by decide +kernel
theorem d_Se_call_88 : decode b_Se_call 88 = .ok (.aload 5, 2) := by decide +kernel
theorem d_Se_call_90 : decode b_Se_call 90 = .ok (.iconst 1, 1) := by decide +kernel
theorem d_Se_call_91 : decode b_Se_call 91 = .ok (.invokevirtual 65, 3) := by decide +kernel
theorem d_Se_call_94 : decode b_Se_call 94 = .ok (.aload_n 2, 1) := by decide +kernel
theorem d_Se_call_95 : decode b_Se_call 95 = .ok (.aload_n 1, 1) := by decide +kernel
theorem d_Se_call_96 : decode b_Se_call 96 = .ok (.getfield 158, 3) := by decide +kernel
theorem d_Se_call_99 : decode b_Se_call 99 = .ok (.invokevirtual 65, 3) := by decide +kernel
theorem d_Se_call_102 : decode b_Se_call 102 = .ok (.getfield 123, 3) := by decide +kernel
theorem d_Se_call_105 : decode b_Se_call 105 = .ok (.invokevirtual 117, 3) := by decide +kernel
theorem d_Se_call_108 : decode b_Se_call 108 = .ok (.aload 5, 2) := by decide +kernel
theorem d_Se_call_110 : decode b_Se_call 110 = .ok (.iconst 2, 1) := by decide +kernel
theorem d_Se_call_111 : decode b_Se_call 111 = .ok (.invokevirtual 65, 3) := by decide +kernel
theorem d_Se_call_114 : decode b_Se_call 114 = .ok (.aload_n 2, 1) := by decide +kernel
theorem d_Se_call_115 : decode b_Se_call 115 = .ok (.aload_n 1, 1) := by decide +kernel
theorem d_Se_call_116 : decode b_Se_call 116 = .ok (.getfield 161, 3) := by decide +kernel
theorem d_Se_call_119 : decode b_Se_call 119 = .ok (.invokevirtual 65, 3) := by decide +kernel
theorem d_Se_call_122 : decode b_Se_call 122 = .ok (.getfield 123, 3) := by decide +kernel
theorem d_Se_call_125 : decode b_Se_call 125 = .ok (.invokevirtual 117, 3) := by decide +kernel
theorem d_Se_call_128 : decode b_Se_call 128 = .ok (.aload_n 2, 1) := by decide +kernel
theorem d_Se_call_129 : decode b_Se_call 129 = .ok (.aload_n 1, 1) := by decide +kernel
theorem d_Se_call_130 : decode b_Se_call 130 = .ok (.getfield 111, 3) := by decide +kernel
theorem d_Se_call_133 : decode b_Se_call 133 = .ok (.invokevirtual 65, 3) := by decide +kernel
theorem d_Se_call_136 : decode b_Se_call 136 = .ok (.aload 5, 2) := by decide +kernel
theorem d_Se_call_138 : decode b_Se_call 138 = .ok (.iconst 5, 1) := by decide +kernel
theorem d_Se_call_139 : decode b_Se_call 139 = .ok (.invokevirtual 65, 3) := by decide +kernel
theorem d_Se_call_142 : decode b_Se_call 142 = .ok (.getfield 123, 3) := by decide +kernel
theorem d_Se_call_145 : decode b_Se_call 145 = .ok (.invokevirtual 117, 3) := by decide +kernel
theorem d_Se_call_148 : decode b_Se_call 148 = .ok (.return_, 1) := by decide +kernel
theorem d_Se_turn_0 : decode b_Se_turn 0 = .ok (.iconst 0, 1) := by decide +kernel
theorem d_Se_turn_1 : decode b_Se_turn 1 = .ok (.istore_n 1, 1) := by decide +kernel
theorem d_Se_turn_2 : decode b_Se_turn 2 = .ok (.iconst 0, 1) := by decide +kernel
theorem d_Se_turn_3 : decode b_Se_turn 3 = .ok (.istore_n 2, 1) := by decide +kernel
theorem d_Se_turn_4 : decode b_Se_turn 4 = .ok (.iload_n 2, 1) := by decide +kernel
theorem d_Se_turn_5 : decode b_Se_turn 5 = .ok (.aload_n 0, 1) := by decide +kernel
theorem d_Se_turn_6 : decode b_Se_turn 6 = .ok (.getfield 3, 3) := by decide +kernel
theorem d_Se_turn_9 : decode b_Se_turn 9 = .ok (.getfield 72, 3) := by decide +kernel
theorem d_Se_turn_12 : decode b_Se_turn 12 = .ok (.if_icmp .ge 137, 3) := by decide +kernel
theorem d_Se_turn_15 : decode b_Se_turn 15 = .ok (.iconst 0, 1) := by decide +kernel
theorem d_Se_turn_16 : decode b_Se_turn 16 = .ok (.istore_n 3, 1) := by decide +kernel
theorem d_Se_turn_17 : decode b_Se_turn 17 = .ok (.iload_n 3, 1) := by decide +kernel
theorem d_Se_turn_18 : decode b_Se_turn 18 = .ok (.bipush 21, 2) := by decide +kernel
theorem d_Se_turn_20 : decode b_Se_turn 20 = .ok (.if_icmp .ge 123, 3) := by decide +kernel
theorem d_Se_turn_23 : decode b_Se_turn 23 = .ok (.aload_n 0, 1) := by decide +kernel
theorem d_Se_turn_24 : decode b_Se_turn 24 = .ok (.iload_n 2, 1) := by decide +kernel
theorem d_Se_turn_25 : decode b_Se_turn 25 = .ok (.iload_n 3, 1) := by decide +kernel
theorem d_Se_turn_26 : decode b_Se_turn 26 = .ok (.invokevirtual 76, 3) := by decide +kernel
theorem d_Se_turn_29 : decode b_Se_turn 29 = .ok (.astore 4, 2) := by decide +kernel
theorem d_Se_turn_31 : decode b_Se_turn 31 = .ok (.aload 4, 2) := by decide +kernel
theorem d_Se_turn_33 : decode b_Se_turn 33 = .ok (.aload 4, 2) := by decide +kernel
theorem d_Se_turn_35 : decode b_Se_turn 35 = .ok (.getfield 62, 3) := by decide +kernel
theorem d_Se_turn_38 : decode b_Se_turn 38 = .ok (.ifCond .eq 15, 3) := by decide +kernel
theorem d_Se_turn_41 : decode b_Se_turn 41 = .ok (.aload 4, 2) := by decide +kernel
theorem d_Se_turn_43 : decode b_Se_turn 43 = .ok (.getfield 55, 3) := by decide +kernel
theorem d_Se_turn_46 : decode b_Se_turn 46 = .ok (.ifCond .ne 7, 3) := by decide +kernel
theorem d_Se_turn_49 : decode b_Se_turn 49 = .ok (.iconst 1, 1) := by decide +kernel
theorem d_Se_turn_50 : decode b_Se_turn 50 = .ok (.goto 4, 3) := by decide +kernel
theorem d_Se_turn_53 : decode b_Se_turn 53 = .ok (.iconst 0, 1) := by decide +kernel
theorem d_Se_turn_54 : decode b_Se_turn 54 = .ok (.putfield 59, 3) := by decide +kernel
theorem d_Se_turn_57 : decode b_Se_turn 57 = .ok (.aload 4, 2) := by decide +kernel
theorem d_Se_turn_59 : decode b_Se_turn 59 = .ok (.dup, 1) := by decide +kernel
theorem d_Se_turn_60 : decode b_Se_turn 60 = .ok (.getfield 55, 3) := by decide +kernel
theorem d_Se_turn_63 : decode b_Se_turn 63 = .ok (.aload 4, 2) := by decide +kernel
theorem d_Se_turn_65 : decode b_Se_turn 65 = .ok (.getfield 62, 3) := by decide +kernel
theorem d_Se_turn_68 : decode b_Se_turn 68 = .ok (.ior, 1) := by decide +kernel
theorem d_Se_turn_69 : decode b_Se_turn 69 = .ok (.putfield 55, 3) := by decide +kernel
theorem d_Se_turn_72 : decode b_Se_turn 72 = .ok (.aload 4, 2) := by decide +kernel
theorem d_Se_turn_74 : decode b_Se_turn 74 = .ok (.iconst 0, 1) := by decide +kernel
theorem d_Se_turn_75 : decode b_Se_turn 75 = .ok (.putfield 62, 3) := by decide +kernel
theorem d_Se_turn_78 : decode b_Se_turn 78 = .ok (.iload_n 1, 1) := by decide +kernel
theorem d_Se_turn_79 : decode b_Se_turn 79 = .ok (.aload 4, 2) := by decide +kernel
theorem d_Se_turn_81 : decode b_Se_turn 81 = .ok (.getfield 59, 3) := by decide +kernel
theorem d_Se_turn_84 : decode b_Se_turn 84 = .ok (.ior, 1) := by decide +kernel
theorem d_Se_turn_85 : decode b_Se_turn 85 = .ok (.istore_n 1, 1) := by decide +kernel
theorem d_Se_turn_86 : decode b_Se_turn 86 = .ok (.iconst 0, 1) := by decide +kernel
theorem d_Se_turn_87 : decode b_Se_turn 87 = .ok (.istore 5, 2) := by decide +kernel
theorem d_Se_turn_89 : decode b_Se_turn 89 = .ok (.iload 5, 2) := by decide +kernel
theorem d_Se_turn_91 : decode b_Se_turn 91 = .ok (.bipush 6, 2) := by decide +kernel
theorem d_Se_turn_93 : decode b_Se_turn 93 = .ok (.if_icmp .ge 44, 3) := by decide +kernel
theorem d_Se_turn_96 : decode b_Se_turn 96 = .ok (.aload 4, 2) := by decide +kernel
theorem d_Se_turn_98 : decode b_Se_turn 98 = .ok (.iload 5, 2) := by decide +kernel
theorem d_Se_turn_100 : decode b_Se_turn 100 = .ok (.invokevirtual 65, 3) := by decide +kernel
theorem d_Se_turn_103 : decode b_Se_turn 103 = .ok (.invokevirtual 80, 3) := by decide +kernel
theorem d_Se_turn_106 : decode b_Se_turn 106 = .ok (.ifCond .ne 6, 3) := by decide +kernel
theorem d_Se_turn_109 : decode b_Se_turn 109 = .ok (.goto 22, 3) := by decide +kernel
theorem d_Se_turn_112 : decode b_Se_turn 112 = .ok (.iconst 1, 1) := by decide +kernel
theorem d_Se_turn_113 : decode b_Se_turn 113 = .ok (.istore_n 1, 1) := by decide +kernel
theorem d_Se_turn_114 : decode b_Se_turn 114 = .ok (.aload_n 0, 1) := by decide +kernel
theorem d_Se_turn_115 : decode b_Se_turn 115 = .ok (.iload_n 2, 1) := by decide +kernel
theorem d_Se_turn_116 : decode b_Se_turn 116 = .ok (.iload 5, 2) := by decide +kernel
theorem d_Se_turn_118 : decode b_Se_turn 118 = .ok (.aload 4, 2) := by decide +kernel
theorem d_Se_turn_120 : decode b_Se_turn 120 = .ok (.iload 5, 2) := by decide +kernel
theorem d_Se_turn_122 : decode b_Se_turn 122 = .ok (.invokevirtual 65, 3) := by decide +kernel
theorem d_Se_turn_125 : decode b_Se_turn 125 = .ok (.getfield 84, 3) := by decide +kernel
theorem d_Se_turn_128 : decode b_Se_turn 128 = .ok (.invokevirtual 87, 3) := by decide +kernel
theorem d_Se_turn_131 : decode b_Se_turn 131 = .ok (.iinc 5 1, 3) := by decide +kernel
theorem d_Se_turn_134 : decode b_Se_turn 134 = .ok (.goto (-45), 3) := by decide +kernel
theorem d_Se_turn_137 : decode b_Se_turn 137 = .ok (.iinc 3 1, 3) := by decide +kernel
theorem d_Se_turn_140 : decode b_Se_turn 140 = .ok (.goto (-123), 3) := by decide +kernel
theorem d_Se_turn_143 : decode b_Se_turn 143 = .ok (.iinc 2 1, 3) := by decide +kernel
theorem d_Se_turn_146 : decode b_Se_turn 146 = .ok (.goto (-142), 3) := by decide +kernel
theorem d_Se_turn_149 : decode b_Se_turn 149 = .ok (.iconst 0, 1) := by decide +kernel
theorem d_Se_turn_150 : decode b_Se_turn 150 = .ok (.istore_n 2, 1) := by decide +kernel
theorem d_Se_turn_151 : decode b_Se_turn 151 = .ok (.iload_n 2, 1) := by decide +kernel
theorem d_Se_turn_152 : decode b_Se_turn 152 = .ok (.aload_n 0, 1) := by decide +kernel
theorem d_Se_turn_153 : decode b_Se_turn 153 = .ok (.getfield 22, 3) := by decide +kernel
theorem d_Se_turn_156 : decode b_Se_turn 156 = .ok (.invokeinterface 51 1, 5) := by decide +kernel
theorem d_Se_turn_161 : decode b_Se_turn 161 = .ok (.if_icmp .ge 28, 3) := by decide +kernel
theorem d_Se_turn_164 : decode b_Se_turn 164 = .ok (.iload_n 1, 1) := by decide +kernel
theorem d_Se_turn_165 : decode b_Se_turn 165 = .ok (.aload_n 0, 1) := by decide +kernel
theorem d_Se_turn_166 : decode b_Se_turn 166 = .ok (.getfield 22, 3) := by decide +kernel
theorem d_Se_turn_169 : decode b_Se_turn 169 = .ok (.iload_n 2, 1) := by decide +kernel
theorem d_Se_turn_170 : decode b_Se_turn 170 = .ok (.invokeinterface 47 2, 5) := by decide +kernel
theorem d_Se_turn_175 : decode b_Se_turn 175 = .ok (.checkcast 44, 3) := by decide +kernel
theorem d_Se_turn_178 : decode b_Se_turn 178 = .ok (.invokevirtual 80, 3) := by decide +kernel
theorem d_Se_turn_181 : decode b_Se_turn 181 = .ok (.ior, 1) := by decide +kernel
theorem d_Se_turn_182 : decode b_Se_turn 182 = .ok (.istore_n 1, 1) := by decide +kernel
theorem d_Se_turn_183 : decode b_Se_turn 183 = .ok (.iinc 2 1, 3) := by decide +kernel
theorem d_Se_turn_186 : decode b_Se_turn 186 = .ok (.goto (-35), 3) := by decide +kernel
theorem d_Se_turn_189 : decode b_Se_turn 189 = .ok (.iconst 0, 1) := by decide +kernel
theorem d_Se_turn_190 : decode b_Se_turn 190 = .ok (.istore_n 2, 1) := by decide +kernel
theorem d_Se_turn_191 : decode b_Se_turn 191 = .ok (.iload_n 2, 1) := by decide +kernel
theorem d_Se_turn_192 : decode b_Se_turn 192 = .ok (.bipush 20, 2) := by decide +kernel
theorem d_Se_turn_194 : decode b_Se_turn 194 = .ok (.if_icmp .ge 28, 3) := by decide +kernel
theorem d_Se_turn_197 : decode b_Se_turn 197 = .ok (.iload_n 1, 1) := by decide +kernel
theorem d_Se_turn_198 : decode b_Se_turn 198 = .ok (.aload_n 0, 1) := by decide +kernel
theorem d_Se_turn_199 : decode b_Se_turn 199 = .ok (.getfield 25, 3) := by decide +kernel
theorem d_Se_turn_202 : decode b_Se_turn 202 = .ok (.iload_n 2, 1) := by decide +kernel
theorem d_Se_turn_203 : decode b_Se_turn 203 = .ok (.invokeinterface 47 2, 5) := by decide +kernel
theorem d_Se_turn_208 : decode b_Se_turn 208 = .ok (.checkcast 44, 3) := by decide +kernel
theorem d_Se_turn_211 : decode b_Se_turn 211 = .ok (.invokevirtual 80, 3) := by decide +kernel
theorem d_Se_turn_214 : decode b_Se_turn 214 = .ok (.ior, 1) := by decide +kernel
theorem d_Se_turn_215 : decode b_Se_turn 215 = .ok (.istore_n 1, 1) := by decide +kernel
theorem d_Se_turn_216 : decode b_Se_turn 216 = .ok (.iinc 2 1, 3) := by decide +kernel
theorem d_Se_turn_219 : decode b_Se_turn 219 = .ok (.goto (-28), 3) := by decide +kernel
theorem d_Se_turn_222 : decode b_Se_turn 222 = .ok (.iconst 0, 1) := by decide +kernel
theorem d_Se_turn_223 : decode b_Se_turn 223 = .ok (.istore_n 2, 1) := by decide +kernel
theorem d_Se_turn_224 : decode b_Se_turn 224 = .ok (.iload_n 2, 1) := by decide +kernel
theorem d_Se_turn_225 : decode b_Se_turn 225 = .ok (.iconst 4, 1) := by decide +kernel
theorem d_Se_turn_226 : decode b_Se_turn 226 = .ok (.if_icmp .ge 28, 3) := by decide +kernel
theorem d_Se_turn_229 : decode b_Se_turn 229 = .ok (.iload_n 1, 1) := by decide +kernel
theorem d_Se_turn_230 : decode b_Se_turn 230 = .ok (.aload_n 0, 1) := by decide +kernel
theorem d_Se_turn_231 : decode b_Se_turn 231 = .ok (.getfield 28, 3) := by decide +kernel
theorem d_Se_turn_234 : decode b_Se_turn 234 = .ok (.iload_n 2, 1) := by decide +kernel
theorem d_Se_turn_235 : decode b_Se_turn 235 = .ok (.invokeinterface 47 2, 5) := by decide +kernel
theorem d_Se_turn_240 : decode b_Se_turn 240 = .ok (.checkcast 44, 3) := by decide +kernel
theorem d_Se_turn_243 : decode b_Se_turn 243 = .ok (.invokevirtual 80, 3) := by decide +kernel
theorem d_Se_turn_246 : decode b_Se_turn 246 = .ok (.ior, 1) := by decide +kernel
theorem d_Se_turn_247 : decode b_Se_turn 247 = .ok (.istore_n 1, 1) := by decide +kernel
theorem d_Se_turn_248 : decode b_Se_turn 248 = .ok (.iinc 2 1, 3) := by decide +kernel
theorem d_Se_turn_251 : decode b_Se_turn 251 = .ok (.goto (-27), 3) := by decide +kernel
theorem d_Se_turn_254 : decode b_Se_turn 254 = .ok (.iload_n 1, 1) := by decide +kernel
theorem d_Se_turn_255 : decode b_Se_turn 255 = .ok (.ireturn, 1) := by decide +kernel
theorem d_Se_note_0 : decode b_Se_note 0 = .ok (.iconst 0, 1) := by decide +kernel
theorem d_Se_note_1 : decode b_Se_note 1 = .ok (.istore 4, 2) := by decide +kernel
theorem d_Se_note_3 : decode b_Se_note 3 = .ok (.iload 4, 2) := by decide +kernel
theorem d_Se_note_5 : decode b_Se_note 5 = .ok (.aload_n 0, 1) := by decide +kernel
theorem d_Se_note_6 : decode b_Se_note 6 = .ok (.getfield 3, 3) := by decide +kernel
theorem d_Se_note_9 : decode b_Se_note 9 = .ok (.getfield 91, 3) := by decide +kernel
theorem d_Se_note_12 : decode b_Se_note 12 = .ok (.if_icmp .ge 54, 3) := by decide +kernel
theorem d_Se_note_15 : decode b_Se_note 15 = .ok (.bipush 20, 2) := by decide +kernel
theorem d_Se_note_17 : decode b_Se_note 17 = .ok (.bipush 6, 2) := by decide +kernel
theorem d_Se_note_19 : decode b_Se_note 19 = .ok (.iload_n 1, 1) := by decide +kernel
theorem d_Se_note_20 : decode b_Se_note 20 = .ok (.imul, 1) := by decide +kernel
theorem d_Se_note_21 : decode b_Se_note 21 = .ok (.iload_n 2, 1) := by decide +kernel
theorem d_Se_note_22 : decode b_Se_note 22 = .ok (.iadd, 1) := by decide +kernel
theorem d_Se_note_23 : decode b_Se_note 23 = .ok (.imul, 1) := by decide +kernel
theorem d_Se_note_24 : decode b_Se_note 24 = .ok (.iload 4, 2) := by decide +kernel
theorem d_Se_note_26 : decode b_Se_note 26 = .ok (.iadd, 1) := by decide +kernel
theorem d_Se_note_27 : decode b_Se_note 27 = .ok (.istore 5, 2) := by decide +kernel
theorem d_Se_note_29 : decode b_Se_note 29 = .ok (.iload_n 3, 1) := by decide +kernel
theorem d_Se_note_30 : decode b_Se_note 30 = .ok (.iload 4, 2) := by decide +kernel
theorem d_Se_note_32 : decode b_Se_note 32 = .ok (.ishr, 1) := by decide +kernel
theorem d_Se_note_33 : decode b_Se_note 33 = .ok (.iconst 1, 1) := by decide +kernel
theorem d_Se_note_34 : decode b_Se_note 34 = .ok (.iand, 1) := by decide +kernel
theorem d_Se_note_35 : decode b_Se_note 35 = .ok (.iconst 1, 1) := by decide +kernel
theorem d_Se_note_36 : decode b_Se_note 36 = .ok (.if_icmp .ne 24, 3) := by decide +kernel
theorem d_Se_note_39 : decode b_Se_note 39 = .ok (.aload_n 0, 1) := by decide +kernel
theorem d_Se_note_40 : decode b_Se_note 40 = .ok (.getfield 31, 3) := by decide +kernel
theorem d_Se_note_43 : decode b_Se_note 43 = .ok (.iload 5, 2) := by decide +kernel
theorem d_Se_note_45 : decode b_Se_note 45 = .ok (.iaload, 1) := by decide +kernel
theorem d_Se_note_46 : decode b_Se_note 46 = .ok (.ifCond .ge 14, 3) := by decide +kernel
theorem d_Se_note_49 : decode b_Se_note 49 = .ok (.aload_n 0, 1) := by decide +kernel
theorem d_Se_note_50 : decode b_Se_note 50 = .ok (.getfield 31, 3) := by decide +kernel
theorem d_Se_note_53 : decode b_Se_note 53 = .ok (.iload 5, 2) := by decide +kernel
theorem d_Se_note_55 : decode b_Se_note 55 = .ok (.aload_n 0, 1) := by decide +kernel
theorem d_Se_note_56 : decode b_Se_note 56 = .ok (.getfield 94, 3) := by decide +kernel
theorem d_Se_note_59 : decode b_Se_note 59 = .ok (.iastore, 1) := by decide +kernel
theorem d_Se_note_60 : decode b_Se_note 60 = .ok (.iinc 4 1, 3) := by decide +kernel
theorem d_Se_note_63 : decode b_Se_note 63 = .ok (.goto (-60), 3) := by decide +kernel
theorem d_Se_note_66 : decode b_Se_note 66 = .ok (.return_, 1) := by decide +kernel
theorem d_Se_points_0 : decode b_Se_points 0 = .ok (.iconst 0, 1) := by decide +kernel
theorem d_Se_points_1 : decode b_Se_points 1 = .ok (.istore_n 3, 1) := by decide +kernel
theorem d_Se_points_2 : decode b_Se_points 2 = .ok (.iconst 0, 1) := by decide +kernel
theorem d_Se_points_3 : decode b_Se_points 3 = .ok (.istore 4, 2) := by decide +kernel
theorem d_Se_points_5 : decode b_Se_points 5 = .ok (.iload 4, 2) := by decide +kernel
theorem d_Se_points_7 : decode b_Se_points 7 = .ok (.bipush 21, 2) := by decide +kernel
theorem d_Se_points_9 : decode b_Se_points 9 = .ok (.if_icmp .ge 26, 3) := by decide +kernel
theorem d_Se_points_12 : decode b_Se_points 12 = .ok (.iload_n 3, 1) := by decide +kernel
theorem d_Se_points_13 : decode b_Se_points 13 = .ok (.aload_n 0, 1) := by decide +kernel
theorem d_Se_points_14 : decode b_Se_points 14 = .ok (.iload_n 1, 1) := by decide +kernel
theorem d_Se_points_15 : decode b_Se_points 15 = .ok (.iload 4, 2) := by decide +kernel
theorem d_Se_points_17 : decode b_Se_points 17 = .ok (.invokevirtual 76, 3) := by decide +kernel
theorem d_Se_points_20 : decode b_Se_points 20 = .ok (.iload_n 2, 1) := by decide +kernel
theorem d_Se_points_21 : decode b_Se_points 21 = .ok (.invokevirtual 65, 3) := by decide +kernel
theorem d_Se_points_24 : decode b_Se_points 24 = .ok (.getfield 123, 3) := by decide +kernel
theorem d_Se_points_27 : decode b_Se_points 27 = .ok (.ior, 1) := by decide +kernel
theorem d_Se_points_28 : decode b_Se_points 28 = .ok (.istore_n 3, 1) := by decide +kernel
theorem d_Se_points_29 : decode b_Se_points 29 = .ok (.iinc 4 1, 3) := by decide +kernel
theorem d_Se_points_32 : decode b_Se_points 32 = .ok (.goto (-27), 3) := by decide +kernel
theorem d_Se_points_35 : decode b_Se_points 35 = .ok (.iload_n 3, 1) := by decide +kernel
theorem d_Se_points_36 : decode b_Se_points 36 = .ok (.ireturn, 1) := by decide +kernel
theorem d_Ru_init_0 : decode b_Ru_init 0 = .ok (.aload_n 0, 1) := by decide +kernel
theorem d_Ru_init_1 : decode b_Ru_init 1 = .ok (.aload_n 1, 1) := by decide +kernel
theorem d_Ru_init_2 : decode b_Ru_init 2 = .ok (.putfield 3, 3) := by decide +kernel
theorem d_Ru_init_5 : decode b_Ru_init 5 = .ok (.aload_n 0, 1) := by decide +kernel
theorem d_Ru_init_6 : decode b_Ru_init 6 = .ok (.invokespecial 9, 3) := by decide +kernel
theorem d_Ru_init_9 : decode b_Ru_init 9 = .ok (.aload_n 0, 1) := by decide +kernel
theorem d_Ru_init_10 : decode b_Ru_init 10 = .ok (.new 15, 3) := by decide +kernel
theorem d_Ru_init_13 : decode b_Ru_init 13 = .ok (.dup, 1) := by decide +kernel
theorem d_Ru_init_14 : decode b_Ru_init 14 = .ok (.invokespecial 17, 3) := by decide +kernel
theorem d_Ru_init_17 : decode b_Ru_init 17 = .ok (.putfield 18, 3) := by decide +kernel
theorem d_Ru_init_20 : decode b_Ru_init 20 = .ok (.aload_n 0, 1) := by decide +kernel
theorem d_Ru_init_21 : decode b_Ru_init 21 = .ok (.new 22, 3) := by decide +kernel
theorem d_Ru_init_24 : decode b_Ru_init 24 = .ok (.dup, 1) := by decide +kernel
theorem d_Ru_init_25 : decode b_Ru_init 25 = .ok (.invokespecial 24, 3) := by decide +kernel
theorem d_Ru_init_28 : decode b_Ru_init 28 = .ok (.putfield 25, 3) := by decide +kernel
theorem d_Ru_init_31 : decode b_Ru_init 31 = .ok (.aload_n 0, 1) := by decide +kernel
theorem d_Ru_init_32 : decode b_Ru_init 32 = .ok (.iconst 4, 1) := by decide +kernel
theorem d_Ru_init_33 : decode b_Ru_init 33 = .ok (.anewarray 29, 3) := by decide +kernel
theorem d_Ru_init_36 : decode b_Ru_init 36 = .ok (.putfield 31, 3) := by decide +kernel
theorem d_Ru_init_39 : decode b_Ru_init 39 = .ok (.aload_n 0, 1) := by decide +kernel
theorem d_Ru_init_40 : decode b_Ru_init 40 = .ok (.bipush 60, 2) := by decide +kernel
theorem d_Ru_init_42 : decode b_Ru_init 42 = .ok (.newarray .int, 2) := by decide +kernel
theorem d_Ru_init_44 : decode b_Ru_init 44 = .ok (.putfield 35, 3) := by decide +kernel
theorem d_Ru_init_47 : decode b_Ru_init 47 = .ok (.aload_n 0, 1) := by decide +kernel
theorem d_Ru_init_48 : decode b_Ru_init 48 = .ok (.iconst 1, 1) := by decide +kernel
theorem d_Ru_init_49 : decode b_Ru_init 49 = .ok (.putfield 39, 3) := by decide +kernel
theorem d_Ru_init_52 : decode b_Ru_init 52 = .ok (.return_, 1) := by decide +kernel
theorem d_Ru_go_0 : decode b_Ru_go 0 = .ok (.aload_n 0, 1) := by decide +kernel
theorem d_Ru_go_1 : decode b_Ru_go 1 = .ok (.getfield 25, 3) := by decide +kernel
theorem d_Ru_go_4 : decode b_Ru_go 4 = .ok (.new 43, 3) := by decide +kernel
theorem d_Ru_go_7 : decode b_Ru_go 7 = .ok (.dup, 1) := by decide +kernel
theorem d_Ru_go_8 : decode b_Ru_go 8 = .ok (.iconst 0, 1) := by decide +kernel
theorem d_Ru_go_9 : decode b_Ru_go 9 = .ok (.iconst 0, 1) := by decide +kernel
theorem d_Ru_go_10 : decode b_Ru_go 10 = .ok (.aconst_null, 1) := by decide +kernel
theorem d_Ru_go_11 : decode b_Ru_go 11 = .ok (.invokespecial 45, 3) := by decide +kernel
theorem d_Ru_go_14 : decode b_Ru_go 14 = .ok (.invokevirtual 48, 3) := by decide +kernel
theorem d_Ru_go_17 : decode b_Ru_go 17 = .ok (.iload_n 1, 1) := by decide +kernel
theorem d_Ru_go_18 : decode b_Ru_go 18 = .ok (.istore_n 3, 1) := by decide +kernel
theorem d_Ru_go_19 : decode b_Ru_go 19 = .ok (.iconst 0, 1) := by decide +kernel
theorem d_Ru_go_20 : decode b_Ru_go 20 = .ok (.istore 4, 2) := by decide +kernel
theorem d_Ru_go_22 : decode b_Ru_go 22 = .ok (.iload 4, 2) := by decide +kernel
theorem d_Ru_go_24 : decode b_Ru_go 24 = .ok (.iload_n 2, 1) := by decide +kernel
theorem d_Ru_go_25 : decode b_Ru_go 25 = .ok (.if_icmp .ge 122, 3) := by decide +kernel
theorem d_Ru_go_28 : decode b_Ru_go 28 = .ok (.iload_n 3, 1) := by decide +kernel
theorem d_Ru_go_29 : decode b_Ru_go 29 = .ok (.ldc 52, 2) := by decide +kernel
theorem d_Ru_go_31 : decode b_Ru_go 31 = .ok (.imul, 1) := by decide +kernel
theorem d_Ru_go_32 : decode b_Ru_go 32 = .ok (.ldc 53, 2) := by decide +kernel
theorem d_Ru_go_34 : decode b_Ru_go 34 = .ok (.iadd, 1) := by decide +kernel
theorem d_Ru_go_35 : decode b_Ru_go 35 = .ok (.istore_n 3, 1) := by decide +kernel
theorem d_Ru_go_36 : decode b_Ru_go 36 = .ok (.aload_n 0, 1) := by decide +kernel
theorem d_Ru_go_37 : decode b_Ru_go 37 = .ok (.getfield 3, 3) := by decide +kernel
theorem d_Ru_go_40 : decode b_Ru_go 40 = .ok (.getfield 54, 3) := by decide +kernel
theorem d_Ru_go_43 : decode b_Ru_go 43 = .ok (.aload_n 0, 1) := by decide +kernel
theorem d_Ru_go_44 : decode b_Ru_go 44 = .ok (.getfield 25, 3) := by decide +kernel
theorem d_Ru_go_47 : decode b_Ru_go 47 = .ok (.invokevirtual 57, 3) := by decide +kernel
theorem d_Ru_go_50 : decode b_Ru_go 50 = .ok (.checkcast 43, 3) := by decide +kernel
theorem d_Ru_go_53 : decode b_Ru_go 53 = .ok (.getfield 61, 3) := by decide +kernel
theorem d_Ru_go_56 : decode b_Ru_go 56 = .ok (.invokeinterface 65 2, 5) := by decide +kernel
theorem d_Ru_go_61 : decode b_Ru_go 61 = .ok (.checkcast 66, 3) := by decide +kernel
theorem d_Ru_go_64 : decode b_Ru_go 64 = .ok (.astore 5, 2) := by decide +kernel
theorem d_Ru_go_66 : decode b_Ru_go 66 = .ok (.iload_n 3, 1) := by decide +kernel
theorem d_Ru_go_67 : decode b_Ru_go 67 = .ok (.iconst 1, 1) := by decide +kernel
theorem d_Ru_go_68 : decode b_Ru_go 68 = .ok (.iushr, 1) := by decide +kernel
theorem d_Ru_go_69 : decode b_Ru_go 69 = .ok (.aload 5, 2) := by decide +kernel
theorem d_Ru_go_71 : decode b_Ru_go 71 = .ok (.invokeinterface 71 1, 5) := by decide +kernel
theorem d_Ru_go_76 : decode b_Ru_go 76 = .ok (.iconst 1, 1) := by decide +kernel
theorem d_Ru_go_77 : decode b_Ru_go 77 = .ok (.iadd, 1) := by decide +kernel
theorem d_Ru_go_78 : decode b_Ru_go 78 = .ok (.irem, 1) := by decide +kernel
theorem d_Ru_go_79 : decode b_Ru_go 79 = .ok (.istore 6, 2) := by decide +kernel
theorem d_Ru_go_81 : decode b_Ru_go 81 = .ok (.iload 6, 2) := by decide +kernel
theorem d_Ru_go_83 : decode b_Ru_go 83 = .ok (.aload 5, 2) := by decide +kernel
theorem d_Ru_go_85 : decode b_Ru_go 85 = .ok (.invokeinterface 71 1, 5) := by decide +kernel
theorem d_Ru_go_90 : decode b_Ru_go 90 = .ok (.if_icmp .ge 32, 3) := by decide +kernel
theorem d_Ru_go_93 : decode b_Ru_go 93 = .ok (.aload_n 0, 1) := by decide +kernel
theorem d_Ru_go_94 : decode b_Ru_go 94 = .ok (.aload 5, 2) := by decide +kernel
theorem d_Ru_go_96 : decode b_Ru_go 96 = .ok (.iload 6, 2) := by decide +kernel
theorem d_Ru_go_98 : decode b_Ru_go 98 = .ok (.invokeinterface 65 2, 5) := by decide +kernel
theorem d_Ru_go_103 : decode b_Ru_go 103 = .ok (.checkcast 75, 3) := by decide +kernel
theorem d_Ru_go_106 : decode b_Ru_go 106 = .ok (.aload_n 0, 1) := by decide +kernel
theorem d_Ru_go_107 : decode b_Ru_go 107 = .ok (.getfield 25, 3) := by decide +kernel
theorem d_Ru_go_110 : decode b_Ru_go 110 = .ok (.invokevirtual 57, 3) := by decide +kernel
theorem d_Ru_go_113 : decode b_Ru_go 113 = .ok (.checkcast 43, 3) := by decide +kernel
theorem d_Ru_go_116 : decode b_Ru_go 116 = .ok (.invokevirtual 77, 3) := by decide +kernel
theorem d_Ru_go_119 : decode b_Ru_go 119 = .ok (.goto 18, 3) := by decide +kernel
theorem d_Ru_go_122 : decode b_Ru_go 122 = .ok (.aload_n 0, 1) := by decide +kernel
theorem d_Ru_go_123 : decode b_Ru_go 123 = .ok (.getfield 25, 3) := by decide +kernel
theorem d_Ru_go_126 : decode b_Ru_go 126 = .ok (.invokevirtual 81, 3) := by decide +kernel
theorem d_Ru_go_129 : decode b_Ru_go 129 = .ok (.iconst 1, 1) := by decide +kernel
theorem d_Ru_go_130 : decode b_Ru_go 130 = .ok (.if_icmp .le 7, 3) := by decide +kernel
theorem d_Ru_go_133 : decode b_Ru_go 133 = .ok (.aload_n 0, 1) := by decide +kernel
theorem d_Ru_go_134 : decode b_Ru_go 134 = .ok (.invokevirtual 82, 3) := by decide +kernel
theorem d_Ru_go_137 : decode b_Ru_go 137 = .ok (.aload_n 0, 1) := by decide +kernel
theorem d_Ru_go_138 : decode b_Ru_go 138 = .ok (.invokevirtual 85, 3) := by decide +kernel
theorem d_Ru_go_141 : decode b_Ru_go 141 = .ok (.iinc 4 1, 3) := by decide +kernel
theorem d_Ru_go_144 : decode b_Ru_go 144 = .ok (.goto (-122), 3) := by decide +kernel
theorem d_Ru_go_147 : decode b_Ru_go 147 = .ok (.return_, 1) := by decide +kernel
theorem d_Ru_act_0 : decode b_Ru_act 0 = .ok (.aload_n 1, 1) := by decide +kernel
theorem d_Ru_act_1 : decode b_Ru_act 1 = .ok (.getfield 101, 3) := by decide +kernel
theorem d_Ru_act_4 : decode b_Ru_act 4 = .ok (.ifCond .eq 11, 3) := by decide +kernel
theorem d_Ru_act_7 : decode b_Ru_act 7 = .ok (.aload_n 1, 1) := by decide +kernel
theorem d_Ru_act_8 : decode b_Ru_act 8 = .ok (.getfield 101, 3) := by decide +kernel
theorem d_Ru_act_11 : decode b_Ru_act 11 = .ok (.iconst 5, 1) := by decide +kernel
theorem d_Ru_act_12 : decode b_Ru_act 12 = .ok (.if_icmp .ne 7, 3) := by decide +kernel
theorem d_Ru_act_15 : decode b_Ru_act 15 = .ok (.aconst_null, 1) := by decide +kernel
theorem d_Ru_act_16 : decode b_Ru_act 16 = .ok (.goto 12, 3) := by decide +kernel
theorem d_Ru_act_19 : decode b_Ru_act 19 = .ok (.aload_n 2, 1) := by decide +kernel
theorem d_Ru_act_20 : decode b_Ru_act 20 = .ok (.getfield 91, 3) := by decide +kernel
theorem d_Ru_act_23 : decode b_Ru_act 23 = .ok (.aload_n 1, 1) := by decide +kernel
theorem d_Ru_act_24 : decode b_Ru_act 24 = .ok (.getfield 104, 3) := by decide +kernel
theorem d_Ru_act_27 : decode b_Ru_act 27 = .ok (.aaload, 1) := by decide +kernel
theorem d_Ru_act_28 : decode b_Ru_act 28 = .ok (.astore_n 3, 1) := by decide +kernel
theorem d_Ru_act_29 : decode b_Ru_act 29 = .ok (.aload_n 1, 1) := by decide +kernel
theorem d_Ru_act_30 : decode b_Ru_act 30 = .ok (.getfield 101, 3) := by decide +kernel
theorem d_Ru_act_33 : decode b_Ru_act 33 = .ok (.tableswitch 344 0 8 #[51, 122, 135, 178, 237, 280, 301, 314, 324], 51) := by decide +kernel
theorem d_Ru_act_84 : decode b_Ru_act 84 = .ok (.aload_n 0, 1) := by decide +kernel
theorem d_Ru_act_85 : decode b_Ru_act 85 = .ok (.getfield 18, 3) := by decide +kernel
theorem d_Ru_act_88 : decode b_Ru_act 88 = .ok (.invokeinterface 71 1, 5) := by decide +kernel
theorem d_Ru_act_93 : decode b_Ru_act 93 = .ok (.bipush 30, 2) := by decide +kernel
theorem d_Ru_act_95 : decode b_Ru_act 95 = .ok (.if_icmp .ne 4, 3) := by decide +kernel
theorem d_Ru_act_98 : decode b_Ru_act 98 = .ok (.return_, 1) := by decide +kernel
theorem d_Ru_act_99 : decode b_Ru_act 99 = .ok (.aload_n 0, 1) := by decide +kernel
theorem d_Ru_act_100 : decode b_Ru_act 100 = .ok (.getfield 18, 3) := by decide +kernel
theorem d_Ru_act_103 : decode b_Ru_act 103 = .ok (.new 29, 3) := by decide +kernel
theorem d_Ru_act_106 : decode b_Ru_act 106 = .ok (.dup, 1) := by decide +kernel
theorem d_Ru_act_107 : decode b_Ru_act 107 = .ok (.aload_n 1, 1) := by decide +kernel
theorem d_Ru_act_108 : decode b_Ru_act 108 = .ok (.getfield 107, 3) := by decide +kernel
theorem d_Ru_act_111 : decode b_Ru_act 111 = .ok (.invokespecial 110, 3) := by decide +kernel
theorem d_Ru_act_114 : decode b_Ru_act 114 = .ok (.invokeinterface 113 2, 5) := by decide +kernel
theorem d_Ru_act_119 : decode b_Ru_act 119 = .ok (.pop, 1) := by decide +kernel
theorem d_Ru_act_120 : decode b_Ru_act 120 = .ok (.aload_n 2, 1) := by decide +kernel
theorem d_Ru_act_121 : decode b_Ru_act 121 = .ok (.getfield 91, 3) := by decide +kernel
theorem d_Ru_act_124 : decode b_Ru_act 124 = .ok (.aload_n 1, 1) := by decide +kernel
theorem d_Ru_act_125 : decode b_Ru_act 125 = .ok (.getfield 98, 3) := by decide +kernel
theorem d_Ru_act_128 : decode b_Ru_act 128 = .ok (.aload_n 0, 1) := by decide +kernel
theorem d_Ru_act_129 : decode b_Ru_act 129 = .ok (.getfield 18, 3) := by decide +kernel
theorem d_Ru_act_132 : decode b_Ru_act 132 = .ok (.aload_n 0, 1) := by decide +kernel
theorem d_Ru_act_133 : decode b_Ru_act 133 = .ok (.getfield 18, 3) := by decide +kernel
theorem d_Ru_act_136 : decode b_Ru_act 136 = .ok (.invokeinterface 71 1, 5) := by decide +kernel
theorem d_Ru_act_141 : decode b_Ru_act 141 = .ok (.iconst 1, 1) := by decide +kernel
theorem d_Ru_act_142 : decode b_Ru_act 142 = .ok (.isub, 1) := by decide +kernel
theorem d_Ru_act_143 : decode b_Ru_act 143 = .ok (.invokeinterface 65 2, 5) := by decide +kernel
theorem d_Ru_act_148 : decode b_Ru_act 148 = .ok (.checkcast 29, 3) := by decide +kernel
theorem d_Ru_act_151 : decode b_Ru_act 151 = .ok (.aastore, 1) := by decide +kernel
theorem d_Ru_act_152 : decode b_Ru_act 152 = .ok (.goto 250, 3) := by decide +kernel
theorem d_Ru_act_155 : decode b_Ru_act 155 = .ok (.aload_n 2, 1) := by decide +kernel
theorem d_Ru_act_156 : decode b_Ru_act 156 = .ok (.getfield 91, 3) := by decide +kernel
theorem d_Ru_act_159 : decode b_Ru_act 159 = .ok (.aload_n 1, 1) := by decide +kernel
theorem d_Ru_act_160 : decode b_Ru_act 160 = .ok (.getfield 98, 3) := by decide +kernel
theorem d_Ru_act_163 : decode b_Ru_act 163 = .ok (.aload_n 3, 1) := by decide +kernel
theorem d_Ru_act_164 : decode b_Ru_act 164 = .ok (.aastore, 1) := by decide +kernel
theorem d_Ru_act_165 : decode b_Ru_act 165 = .ok (.goto 237, 3) := by decide +kernel
theorem d_Ru_act_168 : decode b_Ru_act 168 = .ok (.aload_n 3, 1) := by decide +kernel
theorem d_Ru_act_169 : decode b_Ru_act 169 = .ok (.ifnull 233, 3) := by decide +kernel
theorem d_Ru_act_172 : decode b_Ru_act 172 = .ok (.aload_n 0, 1) := by decide +kernel
theorem d_Ru_act_173 : decode b_Ru_act 173 = .ok (.getfield 3, 3) := by decide +kernel
theorem d_Ru_act_176 : decode b_Ru_act 176 = .ok (.aload_n 3, 1) := by decide +kernel
theorem d_Ru_act_177 : decode b_Ru_act 177 = .ok (.getfield 117, 3) := by decide +kernel
theorem d_Ru_act_180 : decode b_Ru_act 180 = .ok (.aload_n 1, 1) := by decide +kernel
theorem d_Ru_act_181 : decode b_Ru_act 181 = .ok (.getfield 118, 3) := by decide +kernel
theorem d_Ru_act_184 : decode b_Ru_act 184 = .ok (.invokevirtual 121, 3) := by decide +kernel
theorem d_Ru_act_187 : decode b_Ru_act 187 = .ok (.ifCond .eq 215, 3) := by decide +kernel
theorem d_Ru_act_190 : decode b_Ru_act 190 = .ok (.aload_n 2, 1) := by decide +kernel
theorem d_Ru_act_191 : decode b_Ru_act 191 = .ok (.getfield 91, 3) := by decide +kernel
theorem d_Ru_act_194 : decode b_Ru_act 194 = .ok (.aload_n 1, 1) := by decide +kernel
theorem d_Ru_act_195 : decode b_Ru_act 195 = .ok (.getfield 98, 3) := by decide +kernel
theorem d_Ru_act_198 : decode b_Ru_act 198 = .ok (.aload_n 3, 1) := by decide +kernel
theorem d_Ru_act_199 : decode b_Ru_act 199 = .ok (.getfield 125, 3) := by decide +kernel
theorem d_Ru_act_202 : decode b_Ru_act 202 = .ok (.aload_n 1, 1) := by decide +kernel
theorem d_Ru_act_203 : decode b_Ru_act 203 = .ok (.getfield 118, 3) := by decide +kernel
theorem d_Ru_act_206 : decode b_Ru_act 206 = .ok (.aaload, 1) := by decide +kernel
theorem d_Ru_act_207 : decode b_Ru_act 207 = .ok (.aastore, 1) := by decide +kernel
theorem d_Ru_act_208 : decode b_Ru_act 208 = .ok (.goto 194, 3) := by decide +kernel
theorem d_Ru_act_211 : decode b_Ru_act 211 = .ok (.aload_n 2, 1) := by decide +kernel
theorem d_Ru_act_212 : decode b_Ru_act 212 = .ok (.getfield 91, 3) := by decide +kernel
theorem d_Ru_act_215 : decode b_Ru_act 215 = .ok (.aload_n 1, 1) := by decide +kernel
theorem d_Ru_act_216 : decode b_Ru_act 216 = .ok (.getfield 98, 3) := by decide +kernel
theorem d_Ru_act_219 : decode b_Ru_act 219 = .ok (.aaload, 1) := by decide +kernel
theorem d_Ru_act_220 : decode b_Ru_act 220 = .ok (.ifnull 182, 3) := by decide +kernel
theorem d_Ru_act_223 : decode b_Ru_act 223 = .ok (.aload_n 0, 1) := by decide +kernel
theorem d_Ru_act_224 : decode b_Ru_act 224 = .ok (.getfield 3, 3) := by decide +kernel
theorem d_Ru_act_227 : decode b_Ru_act 227 = .ok (.aload_n 2, 1) := by decide +kernel
theorem d_Ru_act_228 : decode b_Ru_act 228 = .ok (.getfield 91, 3) := by decide +kernel
theorem d_Ru_act_231 : decode b_Ru_act 231 = .ok (.aload_n 1, 1) := by decide +kernel
theorem d_Ru_act_232 : decode b_Ru_act 232 = .ok (.getfield 98, 3) := by decide +kernel
theorem d_Ru_act_235 : decode b_Ru_act 235 = .ok (.aaload, 1) := by decide +kernel
theorem d_Ru_act_236 : decode b_Ru_act 236 = .ok (.getfield 117, 3) := by decide +kernel
theorem d_Ru_act_239 : decode b_Ru_act 239 = .ok (.aload_n 1, 1) := by decide +kernel
theorem d_Ru_act_240 : decode b_Ru_act 240 = .ok (.getfield 118, 3) := by decide +kernel
theorem d_Ru_act_243 : decode b_Ru_act 243 = .ok (.invokevirtual 121, 3) := by decide +kernel
theorem d_Ru_act_246 : decode b_Ru_act 246 = .ok (.ifCond .eq 156, 3) := by decide +kernel
theorem d_Ru_act_249 : decode b_Ru_act 249 = .ok (.aload_n 2, 1) := by decide +kernel
theorem d_Ru_act_250 : decode b_Ru_act 250 = .ok (.getfield 91, 3) := by decide +kernel
theorem d_Ru_act_253 : decode b_Ru_act 253 = .ok (.aload_n 1, 1) := by decide +kernel
theorem d_Ru_act_254 : decode b_Ru_act 254 = .ok (.getfield 98, 3) := by decide +kernel
theorem d_Ru_act_257 : decode b_Ru_act 257 = .ok (.aaload, 1) := by decide +kernel
theorem d_Ru_act_258 : decode b_Ru_act 258 = .ok (.getfield 125, 3) := by decide +kernel
theorem d_Ru_act_261 : decode b_Ru_act 261 = .ok (.aload_n 1, 1) := by decide +kernel
theorem d_Ru_act_262 : decode b_Ru_act 262 = .ok (.getfield 118, 3) := by decide +kernel
theorem d_Ru_act_265 : decode b_Ru_act 265 = .ok (.aload_n 3, 1) := by decide +kernel
theorem d_Ru_act_266 : decode b_Ru_act 266 = .ok (.aastore, 1) := by decide +kernel
theorem d_Ru_act_267 : decode b_Ru_act 267 = .ok (.goto 135, 3) := by decide +kernel
theorem d_Ru_act_270 : decode b_Ru_act 270 = .ok (.aload_n 3, 1) := by decide +kernel
theorem d_Ru_act_271 : decode b_Ru_act 271 = .ok (.ifnull 29, 3) := by decide +kernel
theorem d_Ru_act_274 : decode b_Ru_act 274 = .ok (.aload_n 0, 1) := by decide +kernel
theorem d_Ru_act_275 : decode b_Ru_act 275 = .ok (.getfield 3, 3) := by decide +kernel
theorem d_Ru_act_278 : decode b_Ru_act 278 = .ok (.aload_n 0, 1) := by decide +kernel
theorem d_Ru_act_279 : decode b_Ru_act 279 = .ok (.getfield 3, 3) := by decide +kernel
theorem d_Ru_act_282 : decode b_Ru_act 282 = .ok (.getfield 128, 3) := by decide +kernel
theorem d_Ru_act_285 : decode b_Ru_act 285 = .ok (.aload_n 3, 1) := by decide +kernel
theorem d_Ru_act_286 : decode b_Ru_act 286 = .ok (.getfield 117, 3) := by decide +kernel
theorem d_Ru_act_289 : decode b_Ru_act 289 = .ok (.iaload, 1) := by decide +kernel
theorem d_Ru_act_290 : decode b_Ru_act 290 = .ok (.aload_n 1, 1) := by decide +kernel
theorem d_Ru_act_291 : decode b_Ru_act 291 = .ok (.getfield 118, 3) := by decide +kernel
theorem d_Ru_act_294 : decode b_Ru_act 294 = .ok (.invokevirtual 131, 3) := by decide +kernel
theorem d_Ru_act_297 : decode b_Ru_act 297 = .ok (.ifCond .eq 105, 3) := by decide +kernel
theorem d_Ru_act_300 : decode b_Ru_act 300 = .ok (.aload_n 2, 1) := by decide +kernel
theorem d_Ru_act_301 : decode b_Ru_act 301 = .ok (.getfield 91, 3) := by decide +kernel
theorem d_Ru_act_304 : decode b_Ru_act 304 = .ok (.aload_n 1, 1) := by decide +kernel
theorem d_Ru_act_305 : decode b_Ru_act 305 = .ok (.getfield 98, 3) := by decide +kernel
theorem d_Ru_act_308 : decode b_Ru_act 308 = .ok (.aload_n 3, 1) := by decide +kernel
theorem d_Ru_act_309 : decode b_Ru_act 309 = .ok (.aastore, 1) := by decide +kernel
theorem d_Ru_act_310 : decode b_Ru_act 310 = .ok (.goto 92, 3) := by decide +kernel
theorem d_Ru_act_313 : decode b_Ru_act 313 = .ok (.aload_n 2, 1) := by decide +kernel
theorem d_Ru_act_314 : decode b_Ru_act 314 = .ok (.getfield 91, 3) := by decide +kernel
theorem d_Ru_act_317 : decode b_Ru_act 317 = .ok (.aload_n 1, 1) := by decide +kernel
theorem d_Ru_act_318 : decode b_Ru_act 318 = .ok (.getfield 98, 3) := by decide +kernel
theorem d_Ru_act_321 : decode b_Ru_act 321 = .ok (.aload_n 0, 1) := by decide +kernel
theorem d_Ru_act_322 : decode b_Ru_act 322 = .ok (.getfield 31, 3) := by decide +kernel
theorem d_Ru_act_325 : decode b_Ru_act 325 = .ok (.aload_n 1, 1) := by decide +kernel
theorem d_Ru_act_326 : decode b_Ru_act 326 = .ok (.getfield 104, 3) := by decide +kernel
theorem d_Ru_act_329 : decode b_Ru_act 329 = .ok (.aaload, 1) := by decide +kernel
theorem d_Ru_act_330 : decode b_Ru_act 330 = .ok (.aastore, 1) := by decide +kernel
theorem d_Ru_act_331 : decode b_Ru_act 331 = .ok (.goto 71, 3) := by decide +kernel
theorem d_Ru_act_334 : decode b_Ru_act 334 = .ok (.aload_n 0, 1) := by decide +kernel
theorem d_Ru_act_335 : decode b_Ru_act 335 = .ok (.getfield 31, 3) := by decide +kernel
theorem d_Ru_act_338 : decode b_Ru_act 338 = .ok (.aload_n 1, 1) := by decide +kernel
theorem d_Ru_act_339 : decode b_Ru_act 339 = .ok (.getfield 98, 3) := by decide +kernel
theorem d_Ru_act_342 : decode b_Ru_act 342 = .ok (.aload_n 3, 1) := by decide +kernel
theorem d_Ru_act_343 : decode b_Ru_act 343 = .ok (.aastore, 1) := by decide +kernel
theorem d_Ru_act_344 : decode b_Ru_act 344 = .ok (.goto 58, 3) := by decide +kernel
theorem d_Ru_act_347 : decode b_Ru_act 347 = .ok (.aload_n 0, 1) := by decide +kernel
theorem d_Ru_act_348 : decode b_Ru_act 348 = .ok (.aload_n 1, 1) := by decide +kernel
theorem d_Ru_act_349 : decode b_Ru_act 349 = .ok (.aload_n 2, 1) := by decide +kernel
theorem d_Ru_act_350 : decode b_Ru_act 350 = .ok (.aload_n 3, 1) := by decide +kernel
theorem d_Ru_act_351 : decode b_Ru_act 351 = .ok (.invokevirtual 134, 3) := by decide +kernel
theorem d_Ru_act_354 : decode b_Ru_act 354 = .ok (.goto 48, 3) := by decide +kernel
theorem d_Ru_act_357 : decode b_Ru_act 357 = .ok (.aload_n 3, 1) := by decide +kernel
theorem d_Ru_act_358 : decode b_Ru_act 358 = .ok (.ifnull 44, 3) := by decide +kernel
theorem d_Ru_act_361 : decode b_Ru_act 361 = .ok (.aload_n 2, 1) := by decide +kernel
theorem d_Ru_act_362 : decode b_Ru_act 362 = .ok (.getfield 91, 3) := by decide +kernel
theorem d_Ru_act_365 : decode b_Ru_act 365 = .ok (.aload_n 1, 1) := by decide +kernel
theorem d_Ru_act_366 : decode b_Ru_act 366 = .ok (.getfield 98, 3) := by decide +kernel
theorem d_Ru_act_369 : decode b_Ru_act 369 = .ok (.aload_n 3, 1) := by decide +kernel
theorem d_Ru_act_370 : decode b_Ru_act 370 = .ok (.getfield 138, 3) := by decide +kernel
theorem d_Ru_act_373 : decode b_Ru_act 373 = .ok (.aastore, 1) := by decide +kernel
theorem d_Ru_act_374 : decode b_Ru_act 374 = .ok (.goto 28, 3) := by decide +kernel
theorem d_Ru_act_377 : decode b_Ru_act 377 = .ok (.aload_n 2, 1) := by decide +kernel
theorem d_Ru_act_378 : decode b_Ru_act 378 = .ok (.getfield 91, 3) := by decide +kernel
theorem d_Ru_act_381 : decode b_Ru_act 381 = .ok (.aload_n 1, 1) := by decide +kernel
theorem d_Ru_act_382 : decode b_Ru_act 382 = .ok (.getfield 98, 3) := by decide +kernel
theorem d_Ru_act_385 : decode b_Ru_act 385 = .ok (.aaload, 1) := by decide +kernel
theorem d_Ru_act_386 : decode b_Ru_act 386 = .ok (.ifnull 16, 3) := by decide +kernel
theorem d_Ru_act_389 : decode b_Ru_act 389 = .ok (.aload_n 2, 1) := by decide +kernel
theorem d_Ru_act_390 : decode b_Ru_act 390 = .ok (.getfield 91, 3) := by decide +kernel
theorem d_Ru_act_393 : decode b_Ru_act 393 = .ok (.aload_n 1, 1) := by decide +kernel
theorem d_Ru_act_394 : decode b_Ru_act 394 = .ok (.getfield 98, 3) := by decide +kernel
theorem d_Ru_act_397 : decode b_Ru_act 397 = .ok (.aaload, 1) := by decide +kernel
theorem d_Ru_act_398 : decode b_Ru_act 398 = .ok (.aload_n 3, 1) := by decide +kernel
theorem d_Ru_act_399 : decode b_Ru_act 399 = .ok (.putfield 138, 3) := by decide +kernel
theorem d_Ru_act_402 : decode b_Ru_act 402 = .ok (.return_, 1) := by decide +kernel
theorem d_Ru_call_0 : decode b_Ru_call 0 = .ok (.aload_n 3, 1) := by decide +kernel
theorem d_Ru_call_1 : decode b_Ru_call 1 = .ok (.ifnull 15, 3) := by decide +kernel
theorem d_Ru_call_4 : decode b_Ru_call 4 = .ok (.aload_n 0, 1) := by decide +kernel
theorem d_Ru_call_5 : decode b_Ru_call 5 = .ok (.getfield 25, 3) := by decide +kernel
theorem d_Ru_call_8 : decode b_Ru_call 8 = .ok (.invokevirtual 81, 3) := by decide +kernel
theorem d_Ru_call_11 : decode b_Ru_call 11 = .ok (.bipush 10, 2) := by decide +kernel
theorem d_Ru_call_13 : decode b_Ru_call 13 = .ok (.if_icmp .ne 4, 3) := by decide +kernel
theorem d_Ru_call_16 : decode b_Ru_call 16 = .ok (.return_, 1) := by decide +kernel
theorem d_Ru_call_17 : decode b_Ru_call 17 = .ok (.aload_n 0, 1) := by decide +kernel
theorem d_Ru_call_18 : decode b_Ru_call 18 = .ok (.getfield 3, 3) := by decide +kernel
theorem d_Ru_call_21 : decode b_Ru_call 21 = .ok (.aload_n 0, 1) := by decide +kernel
theorem d_Ru_call_22 : decode b_Ru_call 22 = .ok (.getfield 3, 3) := by decide +kernel
theorem d_Ru_call_25 : decode b_Ru_call 25 = .ok (.getfield 128, 3) := by decide +kernel
theorem d_Ru_call_28 : decode b_Ru_call 28 = .ok (.aload_n 3, 1) := by decide +kernel
theorem d_Ru_call_29 : decode b_Ru_call 29 = .ok (.getfield 117, 3) := by decide +kernel
theorem d_Ru_call_32 : decode b_Ru_call 32 = .ok (.iaload, 1) := by decide +kernel
theorem d_Ru_call_33 : decode b_Ru_call 33 = .ok (.aload_n 1, 1) := by decide +kernel
theorem d_Ru_call_34 : decode b_Ru_call 34 = .ok (.getfield 118, 3) := by decide +kernel
theorem d_Ru_call_37 : decode b_Ru_call 37 = .ok (.invokevirtual 142, 3) := by decide +kernel
theorem d_Ru_call_40 : decode b_Ru_call 40 = .ok (.istore 4, 2) := by decide +kernel
theorem d_Ru_call_42 : decode b_Ru_call 42 = .ok (.iload 4, 2) := by decide +kernel
theorem d_Ru_call_44 : decode b_Ru_call 44 = .ok (.ifCond .ge 4, 3) := by decide +kernel
theorem d_Ru_call_47 : decode b_Ru_call 47 = .ok (.return_, 1) := by decide +kernel
theorem d_Ru_call_48 : decode b_Ru_call 48 = .ok (.aload_n 0, 1) := by decide +kernel
theorem d_Ru_call_49 : decode b_Ru_call 49 = .ok (.dup, 1) := by decide +kernel
theorem d_Ru_call_50 : decode b_Ru_call 50 = .ok (.getfield 146, 3) := by decide +kernel
theorem d_Ru_call_53 : decode b_Ru_call 53 = .ok (.iconst 1, 1) := by decide +kernel
theorem d_Ru_call_54 : decode b_Ru_call 54 = .ok (.iadd, 1) := by decide +kernel
theorem d_Ru_call_55 : decode b_Ru_call 55 = .ok (.putfield 146, 3) := by decide +kernel
theorem d_Ru_call_58 : decode b_Ru_call 58 = .ok (.new 43, 3) := by decide +kernel
theorem d_Ru_call_61 : decode b_Ru_call 61 = .ok (.dup, 1) := by decide +kernel
theorem d_Ru_call_62 : decode b_Ru_call 62 = .ok (.iload 4, 2) := by decide +kernel
theorem d_Ru_call_64 : decode b_Ru_call 64 = .ok (.aload_n 0, 1) := by decide +kernel
theorem d_Ru_call_65 : decode b_Ru_call 65 = .ok (.getfield 3, 3) := by decide +kernel
theorem d_Ru_call_68 : decode b_Ru_call 68 = .ok (.getfield 149, 3) := by decide +kernel
theorem d_Ru_call_71 : decode b_Ru_call 71 = .ok (.ifCond .ne 7, 3) := by decide +kernel
theorem d_Ru_call_74 : decode b_Ru_call 74 = .ok (.iconst 0, 1) := by decide +kernel
theorem d_Ru_call_75 : decode b_Ru_call 75 = .ok (.goto 9, 3) := by decide +kernel
theorem d_Ru_call_78 : decode b_Ru_call 78 = .ok (.iconst 1, 1) := by decide +kernel
theorem d_Ru_call_79 : decode b_Ru_call 79 = .ok (.aload_n 3, 1) := by decide +kernel
theorem d_Ru_call_80 : decode b_Ru_call 80 = .ok (.getfield 117, 3) := by decide +kernel
theorem d_Ru_call_83 : decode b_Ru_call 83 = .ok (.iadd, 1) := by decide +kernel
theorem d_Ru_call_84 : decode b_Ru_call 84 = .ok (.aload_n 1, 1) := by decide +kernel
theorem d_Ru_call_85 : decode b_Ru_call 85 = .ok (.invokespecial 45, 3) := by decide +kernel
theorem d_Ru_call_88 : decode b_Ru_call 88 = .ok (.astore 5, 2) := by decide +kernel
theorem d_Ru_call_90 : decode b_Ru_call 90 = .ok (.aload 5, 2) := by decide +kernel
theorem d_Ru_call_92 : decode b_Ru_call 92 = .ok (.getfield 91, 3) := by decide +kernel
theorem d_Ru_call_95 : decode b_Ru_call 95 = .ok (.iconst 0, 1) := by decide +kernel
theorem d_Ru_call_96 : decode b_Ru_call 96 = .ok (.aload_n 3, 1) := by decide +kernel
theorem d_Ru_call_97 : decode b_Ru_call 97 = .ok (.aastore, 1) := by decide +kernel
theorem d_Ru_call_98 : decode b_Ru_call 98 = .ok (.aload 5, 2) := by decide +kernel
theorem d_Ru_call_100 : decode b_Ru_call 100 = .ok (.getfield 91, 3) := by decide +kernel
theorem d_Ru_call_103 : decode b_Ru_call 103 = .ok (.iconst 1, 1) := by decide +kernel
theorem d_Ru_call_104 : decode b_Ru_call 104 = .ok (.aload_n 2, 1) := by decide +kernel
theorem d_Ru_call_105 : decode b_Ru_call 105 = .ok (.getfield 91, 3) := by decide +kernel
theorem d_Ru_call_108 : decode b_Ru_call 108 = .ok (.aload_n 1, 1) := by decide +kernel
theorem d_Ru_call_109 : decode b_Ru_call 109 = .ok (.getfield 152, 3) := by decide +kernel
theorem d_Ru_call_112 : decode b_Ru_call 112 = .ok (.aaload, 1) := by decide +kernel
theorem d_Ru_call_113 : decode b_Ru_call 113 = .ok (.aastore, 1) := by decide +kernel
theorem d_Ru_call_114 : decode b_Ru_call 114 = .ok (.aload 5, 2) := by decide +kernel
theorem d_Ru_call_116 : decode b_Ru_call 116 = .ok (.getfield 91, 3) := by decide +kernel
theorem d_Ru_call_119 : decode b_Ru_call 119 = .ok (.iconst 2, 1) := by decide +kernel
theorem d_Ru_call_120 : decode b_Ru_call 120 = .ok (.aload_n 2, 1) := by decide +kernel
theorem d_Ru_call_121 : decode b_Ru_call 121 = .ok (.getfield 91, 3) := by decide +kernel
theorem d_Ru_call_124 : decode b_Ru_call 124 = .ok (.aload_n 1, 1) := by decide +kernel
theorem d_Ru_call_125 : decode b_Ru_call 125 = .ok (.getfield 155, 3) := by decide +kernel
theorem d_Ru_call_128 : decode b_Ru_call 128 = .ok (.aaload, 1) := by decide +kernel
theorem d_Ru_call_129 : decode b_Ru_call 129 = .ok (.aastore, 1) := by decide +kernel
theorem d_Ru_call_130 : decode b_Ru_call 130 = .ok (.aload_n 0, 1) := by decide +kernel
theorem d_Ru_call_131 : decode b_Ru_call 131 = .ok (.getfield 25, 3) := by decide +kernel
theorem d_Ru_call_134 : decode b_Ru_call 134 = .ok (.aload 5, 2) := by decide +kernel
theorem d_Ru_call_136 : decode b_Ru_call 136 = .ok (.invokevirtual 48, 3) := by decide +kernel
theorem d_Ru_call_139 : decode b_Ru_call 139 = .ok (.return_, 1) := by decide +kernel
theorem d_Ru_give_0 : decode b_Ru_give 0 = .ok (.aload_n 0, 1) := by decide +kernel
theorem d_Ru_give_1 : decode b_Ru_give 1 = .ok (.getfield 25, 3) := by decide +kernel
theorem d_Ru_give_4 : decode b_Ru_give 4 = .ok (.invokevirtual 88, 3) := by decide +kernel
theorem d_Ru_give_7 : decode b_Ru_give 7 = .ok (.checkcast 43, 3) := by decide +kernel
theorem d_Ru_give_10 : decode b_Ru_give 10 = .ok (.astore_n 1, 1) := by decide +kernel
theorem d_Ru_give_11 : decode b_Ru_give 11 = .ok (.aload_n 0, 1) := by decide +kernel
theorem d_Ru_give_12 : decode b_Ru_give 12 = .ok (.getfield 25, 3) := by decide +kernel
theorem d_Ru_give_15 : decode b_Ru_give 15 = .ok (.invokevirtual 57, 3) := by decide +kernel
theorem d_Ru_give_18 : decode b_Ru_give 18 = .ok (.checkcast 43, 3) := by decide +kernel
theorem d_Ru_give_21 : decode b_Ru_give 21 = .ok (.getfield 91, 3) := by decide +kernel
theorem d_Ru_give_24 : decode b_Ru_give 24 = .ok (.aload_n 1, 1) := by decide +kernel
theorem d_Ru_give_25 : decode b_Ru_give 25 = .ok (.getfield 94, 3) := by decide +kernel
theorem d_Ru_give_28 : decode b_Ru_give 28 = .ok (.getfield 98, 3) := by decide +kernel
theorem d_Ru_give_31 : decode b_Ru_give 31 = .ok (.aload_n 1, 1) := by decide +kernel
theorem d_Ru_give_32 : decode b_Ru_give 32 = .ok (.getfield 91, 3) := by decide +kernel
theorem d_Ru_give_35 : decode b_Ru_give 35 = .ok (.iconst 5, 1) := by decide +kernel
theorem d_Ru_give_36 : decode b_Ru_give 36 = .ok (.aaload, 1) := by decide +kernel
theorem d_Ru_give_37 : decode b_Ru_give 37 = .ok (.aastore, 1) := by decide +kernel
theorem d_Ru_give_38 : decode b_Ru_give 38 = .ok (.return_, 1) := by decide +kernel
theorem d_Ru_look_0 : decode b_Ru_look 0 = .ok (.aload_n 0, 1) := by decide +kernel
theorem d_Ru_look_1 : decode b_Ru_look 1 = .ok (.getfield 25, 3) := by decide +kernel
theorem d_Ru_look_4 : decode b_Ru_look 4 = .ok (.invokevirtual 57, 3) := by decide +kernel
theorem d_Ru_look_7 : decode b_Ru_look 7 = .ok (.checkcast 43, 3) := by decide +kernel
theorem d_Ru_look_10 : decode b_Ru_look 10 = .ok (.astore_n 1, 1) := by decide +kernel
theorem d_Ru_look_11 : decode b_Ru_look 11 = .ok (.aload_n 0, 1) := by decide +kernel
theorem d_Ru_look_12 : decode b_Ru_look 12 = .ok (.getfield 3, 3) := by decide +kernel
theorem d_Ru_look_15 : decode b_Ru_look 15 = .ok (.getfield 163, 3) := by decide +kernel
theorem d_Ru_look_18 : decode b_Ru_look 18 = .ok (.aload_n 1, 1) := by decide +kernel
theorem d_Ru_look_19 : decode b_Ru_look 19 = .ok (.getfield 61, 3) := by decide +kernel
theorem d_Ru_look_22 : decode b_Ru_look 22 = .ok (.aload_n 1, 1) := by decide +kernel
theorem d_Ru_look_23 : decode b_Ru_look 23 = .ok (.getfield 167, 3) := by decide +kernel
theorem d_Ru_look_26 : decode b_Ru_look 26 = .ok (.invokevirtual 170, 3) := by decide +kernel
theorem d_Ru_look_29 : decode b_Ru_look 29 = .ok (.astore_n 2, 1) := by decide +kernel
theorem d_Ru_look_30 : decode b_Ru_look 30 = .ok (.iconst 0, 1) := by decide +kernel
theorem d_Ru_look_31 : decode b_Ru_look 31 = .ok (.istore_n 3, 1) := by decide +kernel
theorem d_Ru_look_32 : decode b_Ru_look 32 = .ok (.iload_n 3, 1) := by decide +kernel
theorem d_Ru_look_33 : decode b_Ru_look 33 = .ok (.bipush 6, 2) := by decide +kernel
theorem d_Ru_look_35 : decode b_Ru_look 35 = .ok (.if_icmp .ge 61, 3) := by decide +kernel
theorem d_Ru_look_38 : decode b_Ru_look 38 = .ok (.aload_n 0, 1) := by decide +kernel
theorem d_Ru_look_39 : decode b_Ru_look 39 = .ok (.aload_n 1, 1) := by decide +kernel
theorem d_Ru_look_40 : decode b_Ru_look 40 = .ok (.getfield 91, 3) := by decide +kernel
theorem d_Ru_look_43 : decode b_Ru_look 43 = .ok (.iload_n 3, 1) := by decide +kernel
theorem d_Ru_look_44 : decode b_Ru_look 44 = .ok (.aaload, 1) := by decide +kernel
theorem d_Ru_look_45 : decode b_Ru_look 45 = .ok (.aload_n 2, 1) := by decide +kernel
theorem d_Ru_look_46 : decode b_Ru_look 46 = .ok (.iload_n 3, 1) := by decide +kernel
theorem d_Ru_look_47 : decode b_Ru_look 47 = .ok (.invokevirtual 176, 3) := by decide +kernel
theorem d_Ru_look_50 : decode b_Ru_look 50 = .ok (.invokevirtual 182, 3) := by decide +kernel
theorem d_Ru_look_53 : decode b_Ru_look 53 = .ok (.aload_n 1, 1) := by decide +kernel
theorem d_Ru_look_54 : decode b_Ru_look 54 = .ok (.getfield 91, 3) := by decide +kernel
theorem d_Ru_look_57 : decode b_Ru_look 57 = .ok (.iload_n 3, 1) := by decide +kernel
theorem d_Ru_look_58 : decode b_Ru_look 58 = .ok (.aaload, 1) := by decide +kernel
theorem d_Ru_look_59 : decode b_Ru_look 59 = .ok (.ifnull 31, 3) := by decide +kernel
theorem d_Ru_look_62 : decode b_Ru_look 62 = .ok (.aload_n 0, 1) := by decide +kernel
theorem d_Ru_look_63 : decode b_Ru_look 63 = .ok (.getfield 35, 3) := by decide +kernel
theorem d_Ru_look_66 : decode b_Ru_look 66 = .ok (.bipush 6, 2) := by decide +kernel
theorem d_Ru_look_68 : decode b_Ru_look 68 = .ok (.aload_n 1, 1) := by decide +kernel
theorem d_Ru_look_69 : decode b_Ru_look 69 = .ok (.getfield 61, 3) := by decide +kernel
theorem d_Ru_look_72 : decode b_Ru_look 72 = .ok (.imul, 1) := by decide +kernel
theorem d_Ru_look_73 : decode b_Ru_look 73 = .ok (.iload_n 3, 1) := by decide +kernel
theorem d_Ru_look_74 : decode b_Ru_look 74 = .ok (.iadd, 1) := by decide +kernel
theorem d_Ru_look_75 : decode b_Ru_look 75 = .ok (.dup2, 1) := by decide +kernel
theorem d_Ru_look_76 : decode b_Ru_look 76 = .ok (.iaload, 1) := by decide +kernel
theorem d_Ru_look_77 : decode b_Ru_look 77 = .ok (.iconst 1, 1) := by decide +kernel
theorem d_Ru_look_78 : decode b_Ru_look 78 = .ok (.aload_n 1, 1) := by decide +kernel
theorem d_Ru_look_79 : decode b_Ru_look 79 = .ok (.getfield 91, 3) := by decide +kernel
theorem d_Ru_look_82 : decode b_Ru_look 82 = .ok (.iload_n 3, 1) := by decide +kernel
theorem d_Ru_look_83 : decode b_Ru_look 83 = .ok (.aaload, 1) := by decide +kernel
theorem d_Ru_look_84 : decode b_Ru_look 84 = .ok (.getfield 117, 3) := by decide +kernel
theorem d_Ru_look_87 : decode b_Ru_look 87 = .ok (.ishl, 1) := by decide +kernel
theorem d_Ru_look_88 : decode b_Ru_look 88 = .ok (.ior, 1) := by decide +kernel
theorem d_Ru_look_89 : decode b_Ru_look 89 = .ok (.iastore, 1) := by decide +kernel
theorem d_Ru_look_90 : decode b_Ru_look 90 = .ok (.iinc 3 1, 3) := by decide +kernel
theorem d_Ru_look_93 : decode b_Ru_look 93 = .ok (.goto (-61), 3) := by decide +kernel
theorem d_Ru_look_96 : decode b_Ru_look 96 = .ok (.iconst 0, 1) := by decide +kernel
theorem d_Ru_look_97 : decode b_Ru_look 97 = .ok (.istore_n 3, 1) := by decide +kernel
theorem d_Ru_look_98 : decode b_Ru_look 98 = .ok (.iload_n 3, 1) := by decide +kernel
theorem d_Ru_look_99 : decode b_Ru_look 99 = .ok (.iconst 4, 1) := by decide +kernel
theorem d_Ru_look_100 : decode b_Ru_look 100 = .ok (.if_icmp .ge 38, 3) := by decide +kernel
theorem d_Ru_look_103 : decode b_Ru_look 103 = .ok (.aload_n 0, 1) := by decide +kernel
theorem d_Ru_look_104 : decode b_Ru_look 104 = .ok (.aload_n 0, 1) := by decide +kernel
theorem d_Ru_look_105 : decode b_Ru_look 105 = .ok (.getfield 31, 3) := by decide +kernel
theorem d_Ru_look_108 : decode b_Ru_look 108 = .ok (.iload_n 3, 1) := by decide +kernel
theorem d_Ru_look_109 : decode b_Ru_look 109 = .ok (.aaload, 1) := by decide +kernel
theorem d_Ru_look_110 : decode b_Ru_look 110 = .ok (.aload_n 0, 1) := by decide +kernel
theorem d_Ru_look_111 : decode b_Ru_look 111 = .ok (.getfield 3, 3) := by decide +kernel
theorem d_Ru_look_114 : decode b_Ru_look 114 = .ok (.getfield 163, 3) := by decide +kernel
theorem d_Ru_look_117 : decode b_Ru_look 117 = .ok (.getfield 186, 3) := by decide +kernel
theorem d_Ru_look_120 : decode b_Ru_look 120 = .ok (.iload_n 3, 1) := by decide +kernel
theorem d_Ru_look_121 : decode b_Ru_look 121 = .ok (.invokeinterface 65 2, 5) := by decide +kernel
theorem d_Ru_look_126 : decode b_Ru_look 126 = .ok (.checkcast 159, 3) := by decide +kernel
theorem d_Ru_look_129 : decode b_Ru_look 129 = .ok (.invokevirtual 182, 3) := by decide +kernel
theorem d_Ru_look_132 : decode b_Ru_look 132 = .ok (.iinc 3 1, 3) := by decide +kernel
theorem d_Ru_look_135 : decode b_Ru_look 135 = .ok (.goto (-37), 3) := by decide +kernel
theorem d_Ru_look_138 : decode b_Ru_look 138 = .ok (.iconst 0, 1) := by decide +kernel
theorem d_Ru_look_139 : decode b_Ru_look 139 = .ok (.istore_n 3, 1) := by decide +kernel
theorem d_Ru_look_140 : decode b_Ru_look 140 = .ok (.iload_n 3, 1) := by decide +kernel
theorem d_Ru_look_141 : decode b_Ru_look 141 = .ok (.aload_n 0, 1) := by decide +kernel
theorem d_Ru_look_142 : decode b_Ru_look 142 = .ok (.getfield 18, 3) := by decide +kernel
theorem d_Ru_look_145 : decode b_Ru_look 145 = .ok (.invokeinterface 71 1, 5) := by decide +kernel
theorem d_Ru_look_150 : decode b_Ru_look 150 = .ok (.if_icmp .ge 106, 3) := by decide +kernel
theorem d_Ru_look_153 : decode b_Ru_look 153 = .ok (.aload_n 0, 1) := by decide +kernel
theorem d_Ru_look_154 : decode b_Ru_look 154 = .ok (.getfield 18, 3) := by decide +kernel
theorem d_Ru_look_157 : decode b_Ru_look 157 = .ok (.iload_n 3, 1) := by decide +kernel
theorem d_Ru_look_158 : decode b_Ru_look 158 = .ok (.invokeinterface 65 2, 5) := by decide +kernel
theorem d_Ru_look_163 : decode b_Ru_look 163 = .ok (.checkcast 29, 3) := by decide +kernel
theorem d_Ru_look_166 : decode b_Ru_look 166 = .ok (.astore 4, 2) := by decide +kernel
theorem d_Ru_look_168 : decode b_Ru_look 168 = .ok (.aload_n 0, 1) := by decide +kernel
theorem d_Ru_look_169 : decode b_Ru_look 169 = .ok (.aload 4, 2) := by decide +kernel
theorem d_Ru_look_171 : decode b_Ru_look 171 = .ok (.getfield 138, 3) := by decide +kernel
theorem d_Ru_look_174 : decode b_Ru_look 174 = .ok (.aload_n 0, 1) := by decide +kernel
theorem d_Ru_look_175 : decode b_Ru_look 175 = .ok (.getfield 3, 3) := by decide +kernel
theorem d_Ru_look_178 : decode b_Ru_look 178 = .ok (.getfield 163, 3) := by decide +kernel
theorem d_Ru_look_181 : decode b_Ru_look 181 = .ok (.getfield 188, 3) := by decide +kernel
theorem d_Ru_look_184 : decode b_Ru_look 184 = .ok (.aload 4, 2) := by decide +kernel
theorem d_Ru_look_186 : decode b_Ru_look 186 = .ok (.getfield 117, 3) := by decide +kernel
theorem d_Ru_look_189 : decode b_Ru_look 189 = .ok (.invokeinterface 65 2, 5) := by decide +kernel
theorem d_Ru_look_194 : decode b_Ru_look 194 = .ok (.checkcast 159, 3) := by decide +kernel
theorem d_Ru_look_197 : decode b_Ru_look 197 = .ok (.invokevirtual 182, 3) := by decide +kernel
theorem d_Ru_look_200 : decode b_Ru_look 200 = .ok (.iconst 0, 1) := by decide +kernel
theorem d_Ru_look_201 : decode b_Ru_look 201 = .ok (.istore 5, 2) := by decide +kernel
theorem d_Ru_look_203 : decode b_Ru_look 203 = .ok (.iload 5, 2) := by decide +kernel
theorem d_Ru_look_205 : decode b_Ru_look 205 = .ok (.aload_n 0, 1) := by decide +kernel
theorem d_Ru_look_206 : decode b_Ru_look 206 = .ok (.getfield 3, 3) := by decide +kernel
theorem d_Ru_look_209 : decode b_Ru_look 209 = .ok (.getfield 191, 3) := by decide +kernel
theorem d_Ru_look_212 : decode b_Ru_look 212 = .ok (.if_icmp .ge 38, 3) := by decide +kernel
theorem d_Ru_look_215 : decode b_Ru_look 215 = .ok (.aload_n 0, 1) := by decide +kernel
theorem d_Ru_look_216 : decode b_Ru_look 216 = .ok (.aload 4, 2) := by decide +kernel
theorem d_Ru_look_218 : decode b_Ru_look 218 = .ok (.getfield 125, 3) := by decide +kernel
theorem d_Ru_look_221 : decode b_Ru_look 221 = .ok (.iload 5, 2) := by decide +kernel
theorem d_Ru_look_223 : decode b_Ru_look 223 = .ok (.aaload, 1) := by decide +kernel
theorem d_Ru_look_224 : decode b_Ru_look 224 = .ok (.aload_n 0, 1) := by decide +kernel
theorem d_Ru_look_225 : decode b_Ru_look 225 = .ok (.getfield 3, 3) := by decide +kernel
theorem d_Ru_look_228 : decode b_Ru_look 228 = .ok (.getfield 163, 3) := by decide +kernel
theorem d_Ru_look_231 : decode b_Ru_look 231 = .ok (.aload 4, 2) := by decide +kernel
theorem d_Ru_look_233 : decode b_Ru_look 233 = .ok (.getfield 117, 3) := by decide +kernel
theorem d_Ru_look_236 : decode b_Ru_look 236 = .ok (.iload 5, 2) := by decide +kernel
theorem d_Ru_look_238 : decode b_Ru_look 238 = .ok (.invokevirtual 193, 3) := by decide +kernel
theorem d_Ru_look_241 : decode b_Ru_look 241 = .ok (.invokevirtual 182, 3) := by decide +kernel
theorem d_Ru_look_244 : decode b_Ru_look 244 = .ok (.iinc 5 1, 3) := by decide +kernel
theorem d_Ru_look_247 : decode b_Ru_look 247 = .ok (.goto (-44), 3) := by decide +kernel
theorem d_Ru_look_250 : decode b_Ru_look 250 = .ok (.iinc 3 1, 3) := by decide +kernel
theorem d_Ru_look_253 : decode b_Ru_look 253 = .ok (.goto (-113), 3) := by decide +kernel
theorem d_Ru_look_256 : decode b_Ru_look 256 = .ok (.return_, 1) := by decide +kernel
theorem d_Ru_is_0 : decode b_Ru_is 0 = .ok (.aload_n 1, 1) := by decide +kernel
theorem d_Ru_is_1 : decode b_Ru_is 1 = .ok (.ifnull 22, 3) := by decide +kernel
theorem d_Ru_is_4 : decode b_Ru_is 4 = .ok (.aload_n 2, 1) := by decide +kernel
theorem d_Ru_is_5 : decode b_Ru_is 5 = .ok (.getfield 158, 3) := by decide +kernel
theorem d_Ru_is_8 : decode b_Ru_is 8 = .ok (.aload_n 1, 1) := by decide +kernel
theorem d_Ru_is_9 : decode b_Ru_is 9 = .ok (.getfield 117, 3) := by decide +kernel
theorem d_Ru_is_12 : decode b_Ru_is 12 = .ok (.ishr, 1) := by decide +kernel
theorem d_Ru_is_13 : decode b_Ru_is 13 = .ok (.iconst 1, 1) := by decide +kernel
theorem d_Ru_is_14 : decode b_Ru_is 14 = .ok (.iand, 1) := by decide +kernel
theorem d_Ru_is_15 : decode b_Ru_is 15 = .ok (.ifCond .ne 8, 3) := by decide +kernel
theorem d_Ru_is_18 : decode b_Ru_is 18 = .ok (.aload_n 0, 1) := by decide +kernel
theorem d_Ru_is_19 : decode b_Ru_is 19 = .ok (.iconst 0, 1) := by decide +kernel
theorem d_Ru_is_20 : decode b_Ru_is 20 = .ok (.putfield 39, 3) := by decide +kernel
theorem d_Ru_is_23 : decode b_Ru_is 23 = .ok (.return_, 1) := by decide +kernel
