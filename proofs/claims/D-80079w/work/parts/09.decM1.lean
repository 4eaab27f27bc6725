theorem d_M_init_0 : decode b_M_init 0 = .ok (.aload_n 0, 1) := by decide +kernel
theorem d_M_init_1 : decode b_M_init 1 = .ok (.invokespecial 1, 3) := by decide +kernel
theorem d_M_init_4 : decode b_M_init 4 = .ok (.aload_n 0, 1) := by decide +kernel
theorem d_M_init_5 : decode b_M_init 5 = .ok (.bipush 8, 2) := by decide +kernel
theorem d_M_init_7 : decode b_M_init 7 = .ok (.newarray .int, 2) := by decide +kernel
theorem d_M_init_9 : decode b_M_init 9 = .ok (.putfield 7, 3) := by decide +kernel
theorem d_M_init_12 : decode b_M_init 12 = .ok (.aload_n 0, 1) := by decide +kernel
theorem d_M_init_13 : decode b_M_init 13 = .ok (.bipush 8, 2) := by decide +kernel
theorem d_M_init_15 : decode b_M_init 15 = .ok (.newarray .int, 2) := by decide +kernel
theorem d_M_init_17 : decode b_M_init 17 = .ok (.putfield 13, 3) := by decide +kernel
theorem d_M_init_20 : decode b_M_init 20 = .ok (.aload_n 0, 1) := by decide +kernel
theorem d_M_init_21 : decode b_M_init 21 = .ok (.bipush 10, 2) := by decide +kernel
theorem d_M_init_23 : decode b_M_init 23 = .ok (.newarray .int, 2) := by decide +kernel
theorem d_M_init_25 : decode b_M_init 25 = .ok (.putfield 16, 3) := by decide +kernel
theorem d_M_init_28 : decode b_M_init 28 = .ok (.aload_n 0, 1) := by decide +kernel
theorem d_M_init_29 : decode b_M_init 29 = .ok (.bipush 10, 2) := by decide +kernel
theorem d_M_init_31 : decode b_M_init 31 = .ok (.newarray .int, 2) := by decide +kernel
theorem d_M_init_33 : decode b_M_init 33 = .ok (.putfield 19, 3) := by decide +kernel
theorem d_M_init_36 : decode b_M_init 36 = .ok (.aload_n 0, 1) := by decide +kernel
theorem d_M_init_37 : decode b_M_init 37 = .ok (.bipush 60, 2) := by decide +kernel
theorem d_M_init_39 : decode b_M_init 39 = .ok (.newarray .int, 2) := by decide +kernel
theorem d_M_init_41 : decode b_M_init 41 = .ok (.putfield 22, 3) := by decide +kernel
theorem d_M_init_44 : decode b_M_init 44 = .ok (.aload_n 0, 1) := by decide +kernel
theorem d_M_init_45 : decode b_M_init 45 = .ok (.bipush 60, 2) := by decide +kernel
theorem d_M_init_47 : decode b_M_init 47 = .ok (.newarray .int, 2) := by decide +kernel
theorem d_M_init_49 : decode b_M_init 49 = .ok (.putfield 25, 3) := by decide +kernel
theorem d_M_init_52 : decode b_M_init 52 = .ok (.aload_n 0, 1) := by decide +kernel
theorem d_M_init_53 : decode b_M_init 53 = .ok (.bipush 60, 2) := by decide +kernel
theorem d_M_init_55 : decode b_M_init 55 = .ok (.newarray .int, 2) := by decide +kernel
theorem d_M_init_57 : decode b_M_init 57 = .ok (.putfield 28, 3) := by decide +kernel
theorem d_M_init_60 : decode b_M_init 60 = .ok (.aload_n 0, 1) := by decide +kernel
theorem d_M_init_61 : decode b_M_init 61 = .ok (.bipush 60, 2) := by decide +kernel
theorem d_M_init_63 : decode b_M_init 63 = .ok (.newarray .int, 2) := by decide +kernel
theorem d_M_init_65 : decode b_M_init 65 = .ok (.putfield 31, 3) := by decide +kernel
theorem d_M_init_68 : decode b_M_init 68 = .ok (.aload_n 0, 1) := by decide +kernel
theorem d_M_init_69 : decode b_M_init 69 = .ok (.bipush 60, 2) := by decide +kernel
theorem d_M_init_71 : decode b_M_init 71 = .ok (.newarray .int, 2) := by decide +kernel
theorem d_M_init_73 : decode b_M_init 73 = .ok (.putfield 34, 3) := by decide +kernel
theorem d_M_init_76 : decode b_M_init 76 = .ok (.aload_n 0, 1) := by decide +kernel
theorem d_M_init_77 : decode b_M_init 77 = .ok (.bipush 60, 2) := by decide +kernel
theorem d_M_init_79 : decode b_M_init 79 = .ok (.newarray .int, 2) := by decide +kernel
theorem d_M_init_81 : decode b_M_init 81 = .ok (.putfield 37, 3) := by decide +kernel
theorem d_M_init_84 : decode b_M_init 84 = .ok (.aload_n 0, 1) := by decide +kernel
theorem d_M_init_85 : decode b_M_init 85 = .ok (.bipush 60, 2) := by decide +kernel
theorem d_M_init_87 : decode b_M_init 87 = .ok (.newarray .int, 2) := by decide +kernel
theorem d_M_init_89 : decode b_M_init 89 = .ok (.putfield 40, 3) := by decide +kernel
theorem d_M_init_92 : decode b_M_init 92 = .ok (.aload_n 0, 1) := by decide +kernel
theorem d_M_init_93 : decode b_M_init 93 = .ok (.bipush 60, 2) := by decide +kernel
theorem d_M_init_95 : decode b_M_init 95 = .ok (.newarray .int, 2) := by decide +kernel
theorem d_M_init_97 : decode b_M_init 97 = .ok (.putfield 43, 3) := by decide +kernel
theorem d_M_init_100 : decode b_M_init 100 = .ok (.aload_n 0, 1) := by decide +kernel
theorem d_M_init_101 : decode b_M_init 101 = .ok (.bipush 20, 2) := by decide +kernel
theorem d_M_init_103 : decode b_M_init 103 = .ok (.newarray .int, 2) := by decide +kernel
theorem d_M_init_105 : decode b_M_init 105 = .ok (.putfield 46, 3) := by decide +kernel
theorem d_M_init_108 : decode b_M_init 108 = .ok (.aload_n 0, 1) := by decide +kernel
theorem d_M_init_109 : decode b_M_init 109 = .ok (.sipush 1260, 3) := by decide +kernel
theorem d_M_init_112 : decode b_M_init 112 = .ok (.newarray .int, 2) := by decide +kernel
theorem d_M_init_114 : decode b_M_init 114 = .ok (.putfield 49, 3) := by decide +kernel
theorem d_M_init_117 : decode b_M_init 117 = .ok (.aload_n 0, 1) := by decide +kernel
theorem d_M_init_118 : decode b_M_init 118 = .ok (.sipush 1260, 3) := by decide +kernel
theorem d_M_init_121 : decode b_M_init 121 = .ok (.newarray .int, 2) := by decide +kernel
theorem d_M_init_123 : decode b_M_init 123 = .ok (.putfield 52, 3) := by decide +kernel
theorem d_M_init_126 : decode b_M_init 126 = .ok (.aload_n 0, 1) := by decide +kernel
theorem d_M_init_127 : decode b_M_init 127 = .ok (.sipush 160, 3) := by decide +kernel
theorem d_M_init_130 : decode b_M_init 130 = .ok (.newarray .int, 2) := by decide +kernel
theorem d_M_init_132 : decode b_M_init 132 = .ok (.putfield 55, 3) := by decide +kernel
theorem d_M_init_135 : decode b_M_init 135 = .ok (.aload_n 0, 1) := by decide +kernel
theorem d_M_init_136 : decode b_M_init 136 = .ok (.sipush 160, 3) := by decide +kernel
theorem d_M_init_139 : decode b_M_init 139 = .ok (.newarray .int, 2) := by decide +kernel
theorem d_M_init_141 : decode b_M_init 141 = .ok (.putfield 58, 3) := by decide +kernel
theorem d_M_init_144 : decode b_M_init 144 = .ok (.aload_n 0, 1) := by decide +kernel
theorem d_M_init_145 : decode b_M_init 145 = .ok (.bipush 20, 2) := by decide +kernel
theorem d_M_init_147 : decode b_M_init 147 = .ok (.newarray .int, 2) := by decide +kernel
theorem d_M_init_149 : decode b_M_init 149 = .ok (.putfield 61, 3) := by decide +kernel
theorem d_M_init_152 : decode b_M_init 152 = .ok (.aload_n 0, 1) := by decide +kernel
theorem d_M_init_153 : decode b_M_init 153 = .ok (.bipush 20, 2) := by decide +kernel
theorem d_M_init_155 : decode b_M_init 155 = .ok (.newarray .int, 2) := by decide +kernel
theorem d_M_init_157 : decode b_M_init 157 = .ok (.putfield 64, 3) := by decide +kernel
theorem d_M_init_160 : decode b_M_init 160 = .ok (.aload_n 0, 1) := by decide +kernel
theorem d_M_init_161 : decode b_M_init 161 = .ok (.iconst 4, 1) := by decide +kernel
theorem d_M_init_162 : decode b_M_init 162 = .ok (.newarray .int, 2) := by decide +kernel
theorem d_M_init_164 : decode b_M_init 164 = .ok (.putfield 67, 3) := by decide +kernel
theorem d_M_init_167 : decode b_M_init 167 = .ok (.aload_n 0, 1) := by decide +kernel
theorem d_M_init_168 : decode b_M_init 168 = .ok (.iconst 4, 1) := by decide +kernel
theorem d_M_init_169 : decode b_M_init 169 = .ok (.newarray .int, 2) := by decide +kernel
theorem d_M_init_171 : decode b_M_init 171 = .ok (.putfield 70, 3) := by decide +kernel
theorem d_M_init_174 : decode b_M_init 174 = .ok (.aload_n 0, 1) := by decide +kernel
theorem d_M_init_175 : decode b_M_init 175 = .ok (.bipush 10, 2) := by decide +kernel
theorem d_M_init_177 : decode b_M_init 177 = .ok (.newarray .int, 2) := by decide +kernel
theorem d_M_init_179 : decode b_M_init 179 = .ok (.putfield 73, 3) := by decide +kernel
theorem d_M_init_182 : decode b_M_init 182 = .ok (.aload_n 0, 1) := by decide +kernel
theorem d_M_init_183 : decode b_M_init 183 = .ok (.bipush 10, 2) := by decide +kernel
theorem d_M_init_185 : decode b_M_init 185 = .ok (.newarray .int, 2) := by decide +kernel
theorem d_M_init_187 : decode b_M_init 187 = .ok (.putfield 76, 3) := by decide +kernel
theorem d_M_init_190 : decode b_M_init 190 = .ok (.aload_n 0, 1) := by decide +kernel
theorem d_M_init_191 : decode b_M_init 191 = .ok (.sipush 1200, 3) := by decide +kernel
theorem d_M_init_194 : decode b_M_init 194 = .ok (.newarray .int, 2) := by decide +kernel
theorem d_M_init_196 : decode b_M_init 196 = .ok (.putfield 79, 3) := by decide +kernel
theorem d_M_init_199 : decode b_M_init 199 = .ok (.aload_n 0, 1) := by decide +kernel
theorem d_M_init_200 : decode b_M_init 200 = .ok (.bipush 30, 2) := by decide +kernel
theorem d_M_init_202 : decode b_M_init 202 = .ok (.newarray .int, 2) := by decide +kernel
theorem d_M_init_204 : decode b_M_init 204 = .ok (.putfield 82, 3) := by decide +kernel
theorem d_M_init_207 : decode b_M_init 207 = .ok (.aload_n 0, 1) := by decide +kernel
theorem d_M_init_208 : decode b_M_init 208 = .ok (.sipush 240, 3) := by decide +kernel
theorem d_M_init_211 : decode b_M_init 211 = .ok (.newarray .int, 2) := by decide +kernel
theorem d_M_init_213 : decode b_M_init 213 = .ok (.putfield 85, 3) := by decide +kernel
theorem d_M_init_216 : decode b_M_init 216 = .ok (.aload_n 0, 1) := by decide +kernel
theorem d_M_init_217 : decode b_M_init 217 = .ok (.bipush 30, 2) := by decide +kernel
theorem d_M_init_219 : decode b_M_init 219 = .ok (.newarray .int, 2) := by decide +kernel
theorem d_M_init_221 : decode b_M_init 221 = .ok (.putfield 88, 3) := by decide +kernel
theorem d_M_init_224 : decode b_M_init 224 = .ok (.aload_n 0, 1) := by decide +kernel
theorem d_M_init_225 : decode b_M_init 225 = .ok (.iconst 4, 1) := by decide +kernel
theorem d_M_init_226 : decode b_M_init 226 = .ok (.newarray .int, 2) := by decide +kernel
theorem d_M_init_228 : decode b_M_init 228 = .ok (.putfield 91, 3) := by decide +kernel
theorem d_M_init_231 : decode b_M_init 231 = .ok (.aload_n 0, 1) := by decide +kernel
theorem d_M_init_232 : decode b_M_init 232 = .ok (.bipush 10, 2) := by decide +kernel
theorem d_M_init_234 : decode b_M_init 234 = .ok (.newarray .int, 2) := by decide +kernel
theorem d_M_init_236 : decode b_M_init 236 = .ok (.putfield 94, 3) := by decide +kernel
theorem d_M_init_239 : decode b_M_init 239 = .ok (.aload_n 0, 1) := by decide +kernel
theorem d_M_init_240 : decode b_M_init 240 = .ok (.bipush 10, 2) := by decide +kernel
theorem d_M_init_242 : decode b_M_init 242 = .ok (.newarray .int, 2) := by decide +kernel
theorem d_M_init_244 : decode b_M_init 244 = .ok (.putfield 97, 3) := by decide +kernel
theorem d_M_init_247 : decode b_M_init 247 = .ok (.aload_n 0, 1) := by decide +kernel
theorem d_M_init_248 : decode b_M_init 248 = .ok (.bipush 10, 2) := by decide +kernel
theorem d_M_init_250 : decode b_M_init 250 = .ok (.newarray .int, 2) := by decide +kernel
theorem d_M_init_252 : decode b_M_init 252 = .ok (.putfield 100, 3) := by decide +kernel
theorem d_M_init_255 : decode b_M_init 255 = .ok (.aload_n 0, 1) := by decide +kernel
theorem d_M_init_256 : decode b_M_init 256 = .ok (.bipush 60, 2) := by decide +kernel
theorem d_M_init_258 : decode b_M_init 258 = .ok (.newarray .int, 2) := by decide +kernel
theorem d_M_init_260 : decode b_M_init 260 = .ok (.putfield 103, 3) := by decide +kernel
theorem d_M_init_263 : decode b_M_init 263 = .ok (.aload_n 0, 1) := by decide +kernel
theorem d_M_init_264 : decode b_M_init 264 = .ok (.bipush 60, 2) := by decide +kernel
theorem d_M_init_266 : decode b_M_init 266 = .ok (.newarray .int, 2) := by decide +kernel
theorem d_M_init_268 : decode b_M_init 268 = .ok (.putfield 106, 3) := by decide +kernel
theorem d_M_init_271 : decode b_M_init 271 = .ok (.return_, 1) := by decide +kernel
theorem d_M_cls_0 : decode b_M_cls 0 = .ok (.iload_n 1, 1) := by decide +kernel
theorem d_M_cls_1 : decode b_M_cls 1 = .ok (.iconst (-1), 1) := by decide +kernel
theorem d_M_cls_2 : decode b_M_cls 2 = .ok (.if_icmp .lt 11, 3) := by decide +kernel
theorem d_M_cls_5 : decode b_M_cls 5 = .ok (.iload_n 1, 1) := by decide +kernel
theorem d_M_cls_6 : decode b_M_cls 6 = .ok (.aload_n 0, 1) := by decide +kernel
theorem d_M_cls_7 : decode b_M_cls 7 = .ok (.getfield 109, 3) := by decide +kernel
theorem d_M_cls_10 : decode b_M_cls 10 = .ok (.if_icmp .lt 5, 3) := by decide +kernel
theorem d_M_cls_13 : decode b_M_cls 13 = .ok (.iconst (-1), 1) := by decide +kernel
theorem d_M_cls_14 : decode b_M_cls 14 = .ok (.ireturn, 1) := by decide +kernel
theorem d_M_cls_15 : decode b_M_cls 15 = .ok (.aload_n 0, 1) := by decide +kernel
theorem d_M_cls_16 : decode b_M_cls 16 = .ok (.getfield 109, 3) := by decide +kernel
theorem d_M_cls_19 : decode b_M_cls 19 = .ok (.bipush 8, 2) := by decide +kernel
theorem d_M_cls_21 : decode b_M_cls 21 = .ok (.if_icmp .ne 6, 3) := by decide +kernel
theorem d_M_cls_24 : decode b_M_cls 24 = .ok (.bipush (-4), 2) := by decide +kernel
theorem d_M_cls_26 : decode b_M_cls 26 = .ok (.ireturn, 1) := by decide +kernel
theorem d_M_cls_27 : decode b_M_cls 27 = .ok (.aload_n 0, 1) := by decide +kernel
theorem d_M_cls_28 : decode b_M_cls 28 = .ok (.getfield 7, 3) := by decide +kernel
theorem d_M_cls_31 : decode b_M_cls 31 = .ok (.aload_n 0, 1) := by decide +kernel
theorem d_M_cls_32 : decode b_M_cls 32 = .ok (.getfield 109, 3) := by decide +kernel
theorem d_M_cls_35 : decode b_M_cls 35 = .ok (.iload_n 1, 1) := by decide +kernel
theorem d_M_cls_36 : decode b_M_cls 36 = .ok (.iastore, 1) := by decide +kernel
theorem d_M_cls_37 : decode b_M_cls 37 = .ok (.aload_n 0, 1) := by decide +kernel
theorem d_M_cls_38 : decode b_M_cls 38 = .ok (.dup, 1) := by decide +kernel
theorem d_M_cls_39 : decode b_M_cls 39 = .ok (.getfield 109, 3) := by decide +kernel
theorem d_M_cls_42 : decode b_M_cls 42 = .ok (.iconst 1, 1) := by decide +kernel
theorem d_M_cls_43 : decode b_M_cls 43 = .ok (.iadd, 1) := by decide +kernel
theorem d_M_cls_44 : decode b_M_cls 44 = .ok (.putfield 109, 3) := by decide +kernel
theorem d_M_cls_47 : decode b_M_cls 47 = .ok (.aload_n 0, 1) := by decide +kernel
theorem d_M_cls_48 : decode b_M_cls 48 = .ok (.invokevirtual 134, 3) := by decide +kernel
theorem d_M_cls_51 : decode b_M_cls 51 = .ok (.aload_n 0, 1) := by decide +kernel
theorem d_M_cls_52 : decode b_M_cls 52 = .ok (.getfield 109, 3) := by decide +kernel
theorem d_M_cls_55 : decode b_M_cls 55 = .ok (.iconst 1, 1) := by decide +kernel
theorem d_M_cls_56 : decode b_M_cls 56 = .ok (.isub, 1) := by decide +kernel
theorem d_M_cls_57 : decode b_M_cls 57 = .ok (.ireturn, 1) := by decide +kernel
theorem d_M_change_0 : decode b_M_change 0 = .ok (.aload_n 0, 1) := by decide +kernel
theorem d_M_change_1 : decode b_M_change 1 = .ok (.iconst 0, 1) := by decide +kernel
theorem d_M_change_2 : decode b_M_change 2 = .ok (.putfield 127, 3) := by decide +kernel
theorem d_M_change_5 : decode b_M_change 5 = .ok (.aload_n 0, 1) := by decide +kernel
theorem d_M_change_6 : decode b_M_change 6 = .ok (.invokevirtual 131, 3) := by decide +kernel
theorem d_M_change_9 : decode b_M_change 9 = .ok (.return_, 1) := by decide +kernel
theorem d_M_forgetRun_0 : decode b_M_forgetRun 0 = .ok (.aload_n 0, 1) := by decide +kernel
theorem d_M_forgetRun_1 : decode b_M_forgetRun 1 = .ok (.iconst 0, 1) := by decide +kernel
theorem d_M_forgetRun_2 : decode b_M_forgetRun 2 = .ok (.putfield 219, 3) := by decide +kernel
theorem d_M_forgetRun_5 : decode b_M_forgetRun 5 = .ok (.aload_n 0, 1) := by decide +kernel
theorem d_M_forgetRun_6 : decode b_M_forgetRun 6 = .ok (.iconst 0, 1) := by decide +kernel
theorem d_M_forgetRun_7 : decode b_M_forgetRun 7 = .ok (.putfield 222, 3) := by decide +kernel
theorem d_M_forgetRun_10 : decode b_M_forgetRun 10 = .ok (.aload_n 0, 1) := by decide +kernel
theorem d_M_forgetRun_11 : decode b_M_forgetRun 11 = .ok (.iconst 0, 1) := by decide +kernel
theorem d_M_forgetRun_12 : decode b_M_forgetRun 12 = .ok (.putfield 225, 3) := by decide +kernel
theorem d_M_forgetRun_15 : decode b_M_forgetRun 15 = .ok (.iconst 0, 1) := by decide +kernel
theorem d_M_forgetRun_16 : decode b_M_forgetRun 16 = .ok (.istore_n 1, 1) := by decide +kernel
theorem d_M_forgetRun_17 : decode b_M_forgetRun 17 = .ok (.iload_n 1, 1) := by decide +kernel
theorem d_M_forgetRun_18 : decode b_M_forgetRun 18 = .ok (.bipush 60, 2) := by decide +kernel
theorem d_M_forgetRun_20 : decode b_M_forgetRun 20 = .ok (.if_icmp .ge 16, 3) := by decide +kernel
theorem d_M_forgetRun_23 : decode b_M_forgetRun 23 = .ok (.aload_n 0, 1) := by decide +kernel
theorem d_M_forgetRun_24 : decode b_M_forgetRun 24 = .ok (.getfield 106, 3) := by decide +kernel
theorem d_M_forgetRun_27 : decode b_M_forgetRun 27 = .ok (.iload_n 1, 1) := by decide +kernel
theorem d_M_forgetRun_28 : decode b_M_forgetRun 28 = .ok (.iconst 0, 1) := by decide +kernel
theorem d_M_forgetRun_29 : decode b_M_forgetRun 29 = .ok (.iastore, 1) := by decide +kernel
theorem d_M_forgetRun_30 : decode b_M_forgetRun 30 = .ok (.iinc 1 1, 3) := by decide +kernel
theorem d_M_forgetRun_33 : decode b_M_forgetRun 33 = .ok (.goto (-16), 3) := by decide +kernel
theorem d_M_forgetRun_36 : decode b_M_forgetRun 36 = .ok (.return_, 1) := by decide +kernel
theorem d_M_field_0 : decode b_M_field 0 = .ok (.aload_n 0, 1) := by decide +kernel
theorem d_M_field_1 : decode b_M_field 1 = .ok (.iload_n 1, 1) := by decide +kernel
theorem d_M_field_2 : decode b_M_field 2 = .ok (.invokevirtual 137, 3) := by decide +kernel
theorem d_M_field_5 : decode b_M_field 5 = .ok (.ifCond .ne 5, 3) := by decide +kernel
theorem d_M_field_8 : decode b_M_field 8 = .ok (.iconst (-1), 1) := by decide +kernel
theorem d_M_field_9 : decode b_M_field 9 = .ok (.ireturn, 1) := by decide +kernel
theorem d_M_field_10 : decode b_M_field 10 = .ok (.aload_n 0, 1) := by decide +kernel
theorem d_M_field_11 : decode b_M_field 11 = .ok (.getfield 113, 3) := by decide +kernel
theorem d_M_field_14 : decode b_M_field 14 = .ok (.bipush 8, 2) := by decide +kernel
theorem d_M_field_16 : decode b_M_field 16 = .ok (.if_icmp .ne 6, 3) := by decide +kernel
theorem d_M_field_19 : decode b_M_field 19 = .ok (.bipush (-4), 2) := by decide +kernel
theorem d_M_field_21 : decode b_M_field 21 = .ok (.ireturn, 1) := by decide +kernel
theorem d_M_field_22 : decode b_M_field 22 = .ok (.aload_n 0, 1) := by decide +kernel
theorem d_M_field_23 : decode b_M_field 23 = .ok (.getfield 13, 3) := by decide +kernel
theorem d_M_field_26 : decode b_M_field 26 = .ok (.aload_n 0, 1) := by decide +kernel
theorem d_M_field_27 : decode b_M_field 27 = .ok (.getfield 113, 3) := by decide +kernel
theorem d_M_field_30 : decode b_M_field 30 = .ok (.iload_n 1, 1) := by decide +kernel
theorem d_M_field_31 : decode b_M_field 31 = .ok (.iastore, 1) := by decide +kernel
theorem d_M_field_32 : decode b_M_field 32 = .ok (.aload_n 0, 1) := by decide +kernel
theorem d_M_field_33 : decode b_M_field 33 = .ok (.dup, 1) := by decide +kernel
theorem d_M_field_34 : decode b_M_field 34 = .ok (.getfield 113, 3) := by decide +kernel
theorem d_M_field_37 : decode b_M_field 37 = .ok (.iconst 1, 1) := by decide +kernel
theorem d_M_field_38 : decode b_M_field 38 = .ok (.iadd, 1) := by decide +kernel
theorem d_M_field_39 : decode b_M_field 39 = .ok (.putfield 113, 3) := by decide +kernel
theorem d_M_field_42 : decode b_M_field 42 = .ok (.aload_n 0, 1) := by decide +kernel
theorem d_M_field_43 : decode b_M_field 43 = .ok (.invokevirtual 134, 3) := by decide +kernel
theorem d_M_field_46 : decode b_M_field 46 = .ok (.aload_n 0, 1) := by decide +kernel
theorem d_M_field_47 : decode b_M_field 47 = .ok (.getfield 113, 3) := by decide +kernel
theorem d_M_field_50 : decode b_M_field 50 = .ok (.iconst 1, 1) := by decide +kernel
theorem d_M_field_51 : decode b_M_field 51 = .ok (.isub, 1) := by decide +kernel
theorem d_M_field_52 : decode b_M_field 52 = .ok (.ireturn, 1) := by decide +kernel
theorem d_M_isClass_0 : decode b_M_isClass 0 = .ok (.iload_n 1, 1) := by decide +kernel
theorem d_M_isClass_1 : decode b_M_isClass 1 = .ok (.ifCond .lt 15, 3) := by decide +kernel
theorem d_M_isClass_4 : decode b_M_isClass 4 = .ok (.iload_n 1, 1) := by decide +kernel
theorem d_M_isClass_5 : decode b_M_isClass 5 = .ok (.aload_n 0, 1) := by decide +kernel
theorem d_M_isClass_6 : decode b_M_isClass 6 = .ok (.getfield 109, 3) := by decide +kernel
theorem d_M_isClass_9 : decode b_M_isClass 9 = .ok (.if_icmp .ge 7, 3) := by decide +kernel
theorem d_M_isClass_12 : decode b_M_isClass 12 = .ok (.iconst 1, 1) := by decide +kernel
theorem d_M_isClass_13 : decode b_M_isClass 13 = .ok (.goto 4, 3) := by decide +kernel
theorem d_M_isClass_16 : decode b_M_isClass 16 = .ok (.iconst 0, 1) := by decide +kernel
theorem d_M_isClass_17 : decode b_M_isClass 17 = .ok (.ireturn, 1) := by decide +kernel
theorem d_M_method_0 : decode b_M_method 0 = .ok (.aload_n 0, 1) := by decide +kernel
theorem d_M_method_1 : decode b_M_method 1 = .ok (.iload_n 1, 1) := by decide +kernel
theorem d_M_method_2 : decode b_M_method 2 = .ok (.invokevirtual 137, 3) := by decide +kernel
theorem d_M_method_5 : decode b_M_method 5 = .ok (.ifCond .ne 5, 3) := by decide +kernel
theorem d_M_method_8 : decode b_M_method 8 = .ok (.iconst (-1), 1) := by decide +kernel
theorem d_M_method_9 : decode b_M_method 9 = .ok (.ireturn, 1) := by decide +kernel
theorem d_M_method_10 : decode b_M_method 10 = .ok (.iload_n 2, 1) := by decide +kernel
theorem d_M_method_11 : decode b_M_method 11 = .ok (.ifCond .lt 8, 3) := by decide +kernel
theorem d_M_method_14 : decode b_M_method 14 = .ok (.iload_n 2, 1) := by decide +kernel
theorem d_M_method_15 : decode b_M_method 15 = .ok (.iconst 3, 1) := by decide +kernel
theorem d_M_method_16 : decode b_M_method 16 = .ok (.if_icmp .le 6, 3) := by decide +kernel
theorem d_M_method_19 : decode b_M_method 19 = .ok (.bipush (-2), 2) := by decide +kernel
theorem d_M_method_21 : decode b_M_method 21 = .ok (.ireturn, 1) := by decide +kernel
theorem d_M_method_22 : decode b_M_method 22 = .ok (.aload_n 0, 1) := by decide +kernel
theorem d_M_method_23 : decode b_M_method 23 = .ok (.iload_n 1, 1) := by decide +kernel
theorem d_M_method_24 : decode b_M_method 24 = .ok (.iload_n 2, 1) := by decide +kernel
theorem d_M_method_25 : decode b_M_method 25 = .ok (.invokevirtual 123, 3) := by decide +kernel
theorem d_M_method_28 : decode b_M_method 28 = .ok (.ifCond .lt 6, 3) := by decide +kernel
theorem d_M_method_31 : decode b_M_method 31 = .ok (.bipush (-3), 2) := by decide +kernel
theorem d_M_method_33 : decode b_M_method 33 = .ok (.ireturn, 1) := by decide +kernel
theorem d_M_method_34 : decode b_M_method 34 = .ok (.aload_n 0, 1) := by decide +kernel
theorem d_M_method_35 : decode b_M_method 35 = .ok (.getfield 116, 3) := by decide +kernel
theorem d_M_method_38 : decode b_M_method 38 = .ok (.bipush 10, 2) := by decide +kernel
theorem d_M_method_40 : decode b_M_method 40 = .ok (.if_icmp .ne 6, 3) := by decide +kernel
theorem d_M_method_43 : decode b_M_method 43 = .ok (.bipush (-4), 2) := by decide +kernel
theorem d_M_method_45 : decode b_M_method 45 = .ok (.ireturn, 1) := by decide +kernel
theorem d_M_method_46 : decode b_M_method 46 = .ok (.aload_n 0, 1) := by decide +kernel
theorem d_M_method_47 : decode b_M_method 47 = .ok (.getfield 16, 3) := by decide +kernel
theorem d_M_method_50 : decode b_M_method 50 = .ok (.aload_n 0, 1) := by decide +kernel
theorem d_M_method_51 : decode b_M_method 51 = .ok (.getfield 116, 3) := by decide +kernel
theorem d_M_method_54 : decode b_M_method 54 = .ok (.iload_n 1, 1) := by decide +kernel
theorem d_M_method_55 : decode b_M_method 55 = .ok (.iastore, 1) := by decide +kernel
theorem d_M_method_56 : decode b_M_method 56 = .ok (.aload_n 0, 1) := by decide +kernel
theorem d_M_method_57 : decode b_M_method 57 = .ok (.getfield 19, 3) := by decide +kernel
theorem d_M_method_60 : decode b_M_method 60 = .ok (.aload_n 0, 1) := by decide +kernel
theorem d_M_method_61 : decode b_M_method 61 = .ok (.getfield 116, 3) := by decide +kernel
theorem d_M_method_64 : decode b_M_method 64 = .ok (.iload_n 2, 1) := by decide +kernel
theorem d_M_method_65 : decode b_M_method 65 = .ok (.iastore, 1) := by decide +kernel
theorem d_M_method_66 : decode b_M_method 66 = .ok (.aload_n 0, 1) := by decide +kernel
theorem d_M_method_67 : decode b_M_method 67 = .ok (.dup, 1) := by decide +kernel
theorem d_M_method_68 : decode b_M_method 68 = .ok (.getfield 116, 3) := by decide +kernel
theorem d_M_method_71 : decode b_M_method 71 = .ok (.iconst 1, 1) := by decide +kernel
theorem d_M_method_72 : decode b_M_method 72 = .ok (.iadd, 1) := by decide +kernel
theorem d_M_method_73 : decode b_M_method 73 = .ok (.putfield 116, 3) := by decide +kernel
theorem d_M_method_76 : decode b_M_method 76 = .ok (.aload_n 0, 1) := by decide +kernel
theorem d_M_method_77 : decode b_M_method 77 = .ok (.invokevirtual 134, 3) := by decide +kernel
theorem d_M_method_80 : decode b_M_method 80 = .ok (.aload_n 0, 1) := by decide +kernel
theorem d_M_method_81 : decode b_M_method 81 = .ok (.getfield 116, 3) := by decide +kernel
theorem d_M_method_84 : decode b_M_method 84 = .ok (.iconst 1, 1) := by decide +kernel
theorem d_M_method_85 : decode b_M_method 85 = .ok (.isub, 1) := by decide +kernel
theorem d_M_method_86 : decode b_M_method 86 = .ok (.ireturn, 1) := by decide +kernel
theorem d_M_methodWith_0 : decode b_M_methodWith 0 = .ok (.iconst 0, 1) := by decide +kernel
theorem d_M_methodWith_1 : decode b_M_methodWith 1 = .ok (.istore_n 3, 1) := by decide +kernel
theorem d_M_methodWith_2 : decode b_M_methodWith 2 = .ok (.iload_n 3, 1) := by decide +kernel
theorem d_M_methodWith_3 : decode b_M_methodWith 3 = .ok (.aload_n 0, 1) := by decide +kernel
theorem d_M_methodWith_4 : decode b_M_methodWith 4 = .ok (.getfield 116, 3) := by decide +kernel
theorem d_M_methodWith_7 : decode b_M_methodWith 7 = .ok (.if_icmp .ge 31, 3) := by decide +kernel
theorem d_M_methodWith_10 : decode b_M_methodWith 10 = .ok (.aload_n 0, 1) := by decide +kernel
theorem d_M_methodWith_11 : decode b_M_methodWith 11 = .ok (.getfield 16, 3) := by decide +kernel
theorem d_M_methodWith_14 : decode b_M_methodWith 14 = .ok (.iload_n 3, 1) := by decide +kernel
theorem d_M_methodWith_15 : decode b_M_methodWith 15 = .ok (.iaload, 1) := by decide +kernel
theorem d_M_methodWith_16 : decode b_M_methodWith 16 = .ok (.iload_n 1, 1) := by decide +kernel
theorem d_M_methodWith_17 : decode b_M_methodWith 17 = .ok (.if_icmp .ne 15, 3) := by decide +kernel
theorem d_M_methodWith_20 : decode b_M_methodWith 20 = .ok (.aload_n 0, 1) := by decide +kernel
theorem d_M_methodWith_21 : decode b_M_methodWith 21 = .ok (.getfield 19, 3) := by decide +kernel
theorem d_M_methodWith_24 : decode b_M_methodWith 24 = .ok (.iload_n 3, 1) := by decide +kernel
theorem d_M_methodWith_25 : decode b_M_methodWith 25 = .ok (.iaload, 1) := by decide +kernel
theorem d_M_methodWith_26 : decode b_M_methodWith 26 = .ok (.iload_n 2, 1) := by decide +kernel
theorem d_M_methodWith_27 : decode b_M_methodWith 27 = .ok (.if_icmp .ne 5, 3) := by decide +kernel
theorem d_M_methodWith_30 : decode b_M_methodWith 30 = .ok (.iload_n 3, 1) := by decide +kernel
theorem d_M_methodWith_31 : decode b_M_methodWith 31 = .ok (.ireturn, 1) := by decide +kernel
theorem d_M_methodWith_32 : decode b_M_methodWith 32 = .ok (.iinc 3 1, 3) := by decide +kernel
theorem d_M_methodWith_35 : decode b_M_methodWith 35 = .ok (.goto (-33), 3) := by decide +kernel
theorem d_M_methodWith_38 : decode b_M_methodWith 38 = .ok (.iconst (-1), 1) := by decide +kernel
theorem d_M_methodWith_39 : decode b_M_methodWith 39 = .ok (.ireturn, 1) := by decide +kernel
theorem d_M_statement_0 : decode b_M_statement 0 = .ok (.aload_n 0, 1) := by decide +kernel
theorem d_M_statement_1 : decode b_M_statement 1 = .ok (.iload_n 1, 1) := by decide +kernel
theorem d_M_statement_2 : decode b_M_statement 2 = .ok (.invokevirtual 150, 3) := by decide +kernel
theorem d_M_statement_5 : decode b_M_statement 5 = .ok (.ifCond .ne 5, 3) := by decide +kernel
theorem d_M_statement_8 : decode b_M_statement 8 = .ok (.iconst (-1), 1) := by decide +kernel
theorem d_M_statement_9 : decode b_M_statement 9 = .ok (.ireturn, 1) := by decide +kernel
theorem d_M_statement_10 : decode b_M_statement 10 = .ok (.iload_n 2, 1) := by decide +kernel
theorem d_M_statement_11 : decode b_M_statement 11 = .ok (.ifCond .lt 9, 3) := by decide +kernel
theorem d_M_statement_14 : decode b_M_statement 14 = .ok (.iload_n 2, 1) := by decide +kernel
theorem d_M_statement_15 : decode b_M_statement 15 = .ok (.bipush 9, 2) := by decide +kernel
theorem d_M_statement_17 : decode b_M_statement 17 = .ok (.if_icmp .le 6, 3) := by decide +kernel
theorem d_M_statement_20 : decode b_M_statement 20 = .ok (.bipush (-2), 2) := by decide +kernel
theorem d_M_statement_22 : decode b_M_statement 22 = .ok (.ireturn, 1) := by decide +kernel
theorem d_M_statement_23 : decode b_M_statement 23 = .ok (.aload_n 0, 1) := by decide +kernel
theorem d_M_statement_24 : decode b_M_statement 24 = .ok (.iload_n 2, 1) := by decide +kernel
theorem d_M_statement_25 : decode b_M_statement 25 = .ok (.iload_n 3, 1) := by decide +kernel
theorem d_M_statement_26 : decode b_M_statement 26 = .ok (.iload 4, 2) := by decide +kernel
theorem d_M_statement_28 : decode b_M_statement 28 = .ok (.iload 5, 2) := by decide +kernel
theorem d_M_statement_30 : decode b_M_statement 30 = .ok (.iload 6, 2) := by decide +kernel
theorem d_M_statement_32 : decode b_M_statement 32 = .ok (.iload 7, 2) := by decide +kernel
theorem d_M_statement_34 : decode b_M_statement 34 = .ok (.invokevirtual 153, 3) := by decide +kernel
theorem d_M_statement_37 : decode b_M_statement 37 = .ok (.ifCond .ne 5, 3) := by decide +kernel
theorem d_M_statement_40 : decode b_M_statement 40 = .ok (.iconst (-1), 1) := by decide +kernel
theorem d_M_statement_41 : decode b_M_statement 41 = .ok (.ireturn, 1) := by decide +kernel
theorem d_M_statement_42 : decode b_M_statement 42 = .ok (.iload_n 2, 1) := by decide +kernel
theorem d_M_statement_43 : decode b_M_statement 43 = .ok (.bipush 7, 2) := by decide +kernel
theorem d_M_statement_45 : decode b_M_statement 45 = .ok (.if_icmp .ne 17, 3) := by decide +kernel
theorem d_M_statement_48 : decode b_M_statement 48 = .ok (.iload 5, 2) := by decide +kernel
theorem d_M_statement_50 : decode b_M_statement 50 = .ok (.ifCond .lt 9, 3) := by decide +kernel
theorem d_M_statement_53 : decode b_M_statement 53 = .ok (.iload 5, 2) := by decide +kernel
theorem d_M_statement_55 : decode b_M_statement 55 = .ok (.iconst 3, 1) := by decide +kernel
theorem d_M_statement_56 : decode b_M_statement 56 = .ok (.if_icmp .le 6, 3) := by decide +kernel
theorem d_M_statement_59 : decode b_M_statement 59 = .ok (.bipush (-2), 2) := by decide +kernel
theorem d_M_statement_61 : decode b_M_statement 61 = .ok (.ireturn, 1) := by decide +kernel
theorem d_M_statement_62 : decode b_M_statement 62 = .ok (.aload_n 0, 1) := by decide +kernel
theorem d_M_statement_63 : decode b_M_statement 63 = .ok (.getfield 157, 3) := by decide +kernel
theorem d_M_statement_66 : decode b_M_statement 66 = .ok (.bipush 60, 2) := by decide +kernel
theorem d_M_statement_68 : decode b_M_statement 68 = .ok (.if_icmp .eq 16, 3) := by decide +kernel
theorem d_M_statement_71 : decode b_M_statement 71 = .ok (.iload_n 2, 1) := by decide +kernel
theorem d_M_statement_72 : decode b_M_statement 72 = .ok (.ifCond .ne 15, 3) := by decide +kernel
theorem d_M_statement_75 : decode b_M_statement 75 = .ok (.aload_n 0, 1) := by decide +kernel
theorem d_M_statement_76 : decode b_M_statement 76 = .ok (.getfield 160, 3) := by decide +kernel
theorem d_M_statement_79 : decode b_M_statement 79 = .ok (.bipush 20, 2) := by decide +kernel
theorem d_M_statement_81 : decode b_M_statement 81 = .ok (.if_icmp .ne 6, 3) := by decide +kernel
theorem d_M_statement_84 : decode b_M_statement 84 = .ok (.bipush (-4), 2) := by decide +kernel
theorem d_M_statement_86 : decode b_M_statement 86 = .ok (.ireturn, 1) := by decide +kernel
theorem d_M_statement_87 : decode b_M_statement 87 = .ok (.aload_n 0, 1) := by decide +kernel
theorem d_M_statement_88 : decode b_M_statement 88 = .ok (.getfield 157, 3) := by decide +kernel
theorem d_M_statement_91 : decode b_M_statement 91 = .ok (.istore 8, 2) := by decide +kernel
theorem d_M_statement_93 : decode b_M_statement 93 = .ok (.aload_n 0, 1) := by decide +kernel
theorem d_M_statement_94 : decode b_M_statement 94 = .ok (.getfield 22, 3) := by decide +kernel
theorem d_M_statement_97 : decode b_M_statement 97 = .ok (.iload 8, 2) := by decide +kernel
theorem d_M_statement_99 : decode b_M_statement 99 = .ok (.iload_n 1, 1) := by decide +kernel
theorem d_M_statement_100 : decode b_M_statement 100 = .ok (.iastore, 1) := by decide +kernel
theorem d_M_statement_101 : decode b_M_statement 101 = .ok (.aload_n 0, 1) := by decide +kernel
theorem d_M_statement_102 : decode b_M_statement 102 = .ok (.getfield 25, 3) := by decide +kernel
theorem d_M_statement_105 : decode b_M_statement 105 = .ok (.iload 8, 2) := by decide +kernel
theorem d_M_statement_107 : decode b_M_statement 107 = .ok (.iload_n 2, 1) := by decide +kernel
theorem d_M_statement_108 : decode b_M_statement 108 = .ok (.iastore, 1) := by decide +kernel
theorem d_M_statement_109 : decode b_M_statement 109 = .ok (.aload_n 0, 1) := by decide +kernel
theorem d_M_statement_110 : decode b_M_statement 110 = .ok (.getfield 28, 3) := by decide +kernel
theorem d_M_statement_113 : decode b_M_statement 113 = .ok (.iload 8, 2) := by decide +kernel
theorem d_M_statement_115 : decode b_M_statement 115 = .ok (.iload_n 3, 1) := by decide +kernel
theorem d_M_statement_116 : decode b_M_statement 116 = .ok (.iastore, 1) := by decide +kernel
theorem d_M_statement_117 : decode b_M_statement 117 = .ok (.aload_n 0, 1) := by decide +kernel
theorem d_M_statement_118 : decode b_M_statement 118 = .ok (.getfield 31, 3) := by decide +kernel
theorem d_M_statement_121 : decode b_M_statement 121 = .ok (.iload 8, 2) := by decide +kernel
theorem d_M_statement_123 : decode b_M_statement 123 = .ok (.iload 4, 2) := by decide +kernel
theorem d_M_statement_125 : decode b_M_statement 125 = .ok (.iastore, 1) := by decide +kernel
theorem d_M_statement_126 : decode b_M_statement 126 = .ok (.aload_n 0, 1) := by decide +kernel
theorem d_M_statement_127 : decode b_M_statement 127 = .ok (.getfield 34, 3) := by decide +kernel
theorem d_M_statement_130 : decode b_M_statement 130 = .ok (.iload 8, 2) := by decide +kernel
theorem d_M_statement_132 : decode b_M_statement 132 = .ok (.iload 5, 2) := by decide +kernel
theorem d_M_statement_134 : decode b_M_statement 134 = .ok (.iastore, 1) := by decide +kernel
theorem d_M_statement_135 : decode b_M_statement 135 = .ok (.aload_n 0, 1) := by decide +kernel
theorem d_M_statement_136 : decode b_M_statement 136 = .ok (.getfield 37, 3) := by decide +kernel
theorem d_M_statement_139 : decode b_M_statement 139 = .ok (.iload 8, 2) := by decide +kernel
theorem d_M_statement_141 : decode b_M_statement 141 = .ok (.iload 6, 2) := by decide +kernel
theorem d_M_statement_143 : decode b_M_statement 143 = .ok (.iastore, 1) := by decide +kernel
theorem d_M_statement_144 : decode b_M_statement 144 = .ok (.aload_n 0, 1) := by decide +kernel
theorem d_M_statement_145 : decode b_M_statement 145 = .ok (.getfield 40, 3) := by decide +kernel
theorem d_M_statement_148 : decode b_M_statement 148 = .ok (.iload 8, 2) := by decide +kernel
theorem d_M_statement_150 : decode b_M_statement 150 = .ok (.iload 7, 2) := by decide +kernel
theorem d_M_statement_152 : decode b_M_statement 152 = .ok (.iastore, 1) := by decide +kernel
theorem d_M_statement_153 : decode b_M_statement 153 = .ok (.aload_n 0, 1) := by decide +kernel
theorem d_M_statement_154 : decode b_M_statement 154 = .ok (.getfield 43, 3) := by decide +kernel
theorem d_M_statement_157 : decode b_M_statement 157 = .ok (.iload 8, 2) := by decide +kernel
theorem d_M_statement_159 : decode b_M_statement 159 = .ok (.iconst (-1), 1) := by decide +kernel
theorem d_M_statement_160 : decode b_M_statement 160 = .ok (.iastore, 1) := by decide +kernel
theorem d_M_statement_161 : decode b_M_statement 161 = .ok (.iload_n 2, 1) := by decide +kernel
theorem d_M_statement_162 : decode b_M_statement 162 = .ok (.ifCond .ne 35, 3) := by decide +kernel
theorem d_M_statement_165 : decode b_M_statement 165 = .ok (.aload_n 0, 1) := by decide +kernel
theorem d_M_statement_166 : decode b_M_statement 166 = .ok (.getfield 43, 3) := by decide +kernel
theorem d_M_statement_169 : decode b_M_statement 169 = .ok (.iload 8, 2) := by decide +kernel
theorem d_M_statement_171 : decode b_M_statement 171 = .ok (.aload_n 0, 1) := by decide +kernel
theorem d_M_statement_172 : decode b_M_statement 172 = .ok (.getfield 160, 3) := by decide +kernel
theorem d_M_statement_175 : decode b_M_statement 175 = .ok (.iastore, 1) := by decide +kernel
theorem d_M_statement_176 : decode b_M_statement 176 = .ok (.aload_n 0, 1) := by decide +kernel
theorem d_M_statement_177 : decode b_M_statement 177 = .ok (.getfield 46, 3) := by decide +kernel
theorem d_M_statement_180 : decode b_M_statement 180 = .ok (.aload_n 0, 1) := by decide +kernel
theorem d_M_statement_181 : decode b_M_statement 181 = .ok (.getfield 160, 3) := by decide +kernel
theorem d_M_statement_184 : decode b_M_statement 184 = .ok (.iload 4, 2) := by decide +kernel
theorem d_M_statement_186 : decode b_M_statement 186 = .ok (.iastore, 1) := by decide +kernel
theorem d_M_statement_187 : decode b_M_statement 187 = .ok (.aload_n 0, 1) := by decide +kernel
theorem d_M_statement_188 : decode b_M_statement 188 = .ok (.dup, 1) := by decide +kernel
theorem d_M_statement_189 : decode b_M_statement 189 = .ok (.getfield 160, 3) := by decide +kernel
theorem d_M_statement_192 : decode b_M_statement 192 = .ok (.iconst 1, 1) := by decide +kernel
theorem d_M_statement_193 : decode b_M_statement 193 = .ok (.iadd, 1) := by decide +kernel
theorem d_M_statement_194 : decode b_M_statement 194 = .ok (.putfield 160, 3) := by decide +kernel
theorem d_M_statement_197 : decode b_M_statement 197 = .ok (.aload_n 0, 1) := by decide +kernel
theorem d_M_statement_198 : decode b_M_statement 198 = .ok (.dup, 1) := by decide +kernel
theorem d_M_statement_199 : decode b_M_statement 199 = .ok (.getfield 157, 3) := by decide +kernel
theorem d_M_statement_202 : decode b_M_statement 202 = .ok (.iconst 1, 1) := by decide +kernel
theorem d_M_statement_203 : decode b_M_statement 203 = .ok (.iadd, 1) := by decide +kernel
theorem d_M_statement_204 : decode b_M_statement 204 = .ok (.putfield 157, 3) := by decide +kernel
theorem d_M_statement_207 : decode b_M_statement 207 = .ok (.aload_n 0, 1) := by decide +kernel
theorem d_M_statement_208 : decode b_M_statement 208 = .ok (.invokevirtual 134, 3) := by decide +kernel
theorem d_M_statement_211 : decode b_M_statement 211 = .ok (.iload 8, 2) := by decide +kernel
theorem d_M_statement_213 : decode b_M_statement 213 = .ok (.ireturn, 1) := by decide +kernel
theorem d_M_isMethod_0 : decode b_M_isMethod 0 = .ok (.iload_n 1, 1) := by decide +kernel
theorem d_M_isMethod_1 : decode b_M_isMethod 1 = .ok (.ifCond .lt 15, 3) := by decide +kernel
theorem d_M_isMethod_4 : decode b_M_isMethod 4 = .ok (.iload_n 1, 1) := by decide +kernel
theorem d_M_isMethod_5 : decode b_M_isMethod 5 = .ok (.aload_n 0, 1) := by decide +kernel
theorem d_M_isMethod_6 : decode b_M_isMethod 6 = .ok (.getfield 116, 3) := by decide +kernel
theorem d_M_isMethod_9 : decode b_M_isMethod 9 = .ok (.if_icmp .ge 7, 3) := by decide +kernel
theorem d_M_isMethod_12 : decode b_M_isMethod 12 = .ok (.iconst 1, 1) := by decide +kernel
theorem d_M_isMethod_13 : decode b_M_isMethod 13 = .ok (.goto 4, 3) := by decide +kernel
theorem d_M_isMethod_16 : decode b_M_isMethod 16 = .ok (.iconst 0, 1) := by decide +kernel
theorem d_M_isMethod_17 : decode b_M_isMethod 17 = .ok (.ireturn, 1) := by decide +kernel
theorem d_M_isGood_0 : decode b_M_isGood 0 = .ok (.iload_n 1, 1) := by decide +kernel
theorem d_M_isGood_1 : decode b_M_isGood 1 = .ok (.tableswitch 202 0 7 #[47, 202, 68, 68, 97, 126, 146, 166], 47) := by decide +kernel
theorem d_M_isGood_48 : decode b_M_isGood 48 = .ok (.iload_n 2, 1) := by decide +kernel
theorem d_M_isGood_49 : decode b_M_isGood 49 = .ok (.invokestatic 141, 3) := by decide +kernel
theorem d_M_isGood_52 : decode b_M_isGood 52 = .ok (.ifCond .eq 15, 3) := by decide +kernel
theorem d_M_isGood_55 : decode b_M_isGood 55 = .ok (.aload_n 0, 1) := by decide +kernel
theorem d_M_isGood_56 : decode b_M_isGood 56 = .ok (.iload_n 3, 1) := by decide +kernel
theorem d_M_isGood_57 : decode b_M_isGood 57 = .ok (.invokevirtual 137, 3) := by decide +kernel
theorem d_M_isGood_60 : decode b_M_isGood 60 = .ok (.ifCond .eq 7, 3) := by decide +kernel
theorem d_M_isGood_63 : decode b_M_isGood 63 = .ok (.iconst 1, 1) := by decide +kernel
theorem d_M_isGood_64 : decode b_M_isGood 64 = .ok (.goto 4, 3) := by decide +kernel
theorem d_M_isGood_67 : decode b_M_isGood 67 = .ok (.iconst 0, 1) := by decide +kernel
theorem d_M_isGood_68 : decode b_M_isGood 68 = .ok (.ireturn, 1) := by decide +kernel
theorem d_M_isGood_69 : decode b_M_isGood 69 = .ok (.iload_n 2, 1) := by decide +kernel
theorem d_M_isGood_70 : decode b_M_isGood 70 = .ok (.invokestatic 141, 3) := by decide +kernel
theorem d_M_isGood_73 : decode b_M_isGood 73 = .ok (.ifCond .eq 23, 3) := by decide +kernel
theorem d_M_isGood_76 : decode b_M_isGood 76 = .ok (.iload_n 3, 1) := by decide +kernel
theorem d_M_isGood_77 : decode b_M_isGood 77 = .ok (.invokestatic 141, 3) := by decide +kernel
theorem d_M_isGood_80 : decode b_M_isGood 80 = .ok (.ifCond .eq 16, 3) := by decide +kernel
theorem d_M_isGood_83 : decode b_M_isGood 83 = .ok (.aload_n 0, 1) := by decide +kernel
theorem d_M_isGood_84 : decode b_M_isGood 84 = .ok (.iload 4, 2) := by decide +kernel
theorem d_M_isGood_86 : decode b_M_isGood 86 = .ok (.invokevirtual 144, 3) := by decide +kernel
theorem d_M_isGood_89 : decode b_M_isGood 89 = .ok (.ifCond .eq 7, 3) := by decide +kernel
theorem d_M_isGood_92 : decode b_M_isGood 92 = .ok (.iconst 1, 1) := by decide +kernel
theorem d_M_isGood_93 : decode b_M_isGood 93 = .ok (.goto 4, 3) := by decide +kernel
theorem d_M_isGood_96 : decode b_M_isGood 96 = .ok (.iconst 0, 1) := by decide +kernel
theorem d_M_isGood_97 : decode b_M_isGood 97 = .ok (.ireturn, 1) := by decide +kernel
theorem d_M_isGood_98 : decode b_M_isGood 98 = .ok (.iload_n 2, 1) := by decide +kernel
theorem d_M_isGood_99 : decode b_M_isGood 99 = .ok (.invokestatic 141, 3) := by decide +kernel
theorem d_M_isGood_102 : decode b_M_isGood 102 = .ok (.ifCond .eq 23, 3) := by decide +kernel
theorem d_M_isGood_105 : decode b_M_isGood 105 = .ok (.iload_n 3, 1) := by decide +kernel
theorem d_M_isGood_106 : decode b_M_isGood 106 = .ok (.invokestatic 141, 3) := by decide +kernel
theorem d_M_isGood_109 : decode b_M_isGood 109 = .ok (.ifCond .eq 16, 3) := by decide +kernel
theorem d_M_isGood_112 : decode b_M_isGood 112 = .ok (.aload_n 0, 1) := by decide +kernel
theorem d_M_isGood_113 : decode b_M_isGood 113 = .ok (.iload 4, 2) := by decide +kernel
theorem d_M_isGood_115 : decode b_M_isGood 115 = .ok (.invokevirtual 137, 3) := by decide +kernel
theorem d_M_isGood_118 : decode b_M_isGood 118 = .ok (.ifCond .eq 7, 3) := by decide +kernel
theorem d_M_isGood_121 : decode b_M_isGood 121 = .ok (.iconst 1, 1) := by decide +kernel
theorem d_M_isGood_122 : decode b_M_isGood 122 = .ok (.goto 4, 3) := by decide +kernel
theorem d_M_isGood_125 : decode b_M_isGood 125 = .ok (.iconst 0, 1) := by decide +kernel
theorem d_M_isGood_126 : decode b_M_isGood 126 = .ok (.ireturn, 1) := by decide +kernel
theorem d_M_isGood_127 : decode b_M_isGood 127 = .ok (.iload_n 2, 1) := by decide +kernel
theorem d_M_isGood_128 : decode b_M_isGood 128 = .ok (.invokestatic 141, 3) := by decide +kernel
theorem d_M_isGood_131 : decode b_M_isGood 131 = .ok (.ifCond .eq 14, 3) := by decide +kernel
theorem d_M_isGood_134 : decode b_M_isGood 134 = .ok (.iload_n 3, 1) := by decide +kernel
theorem d_M_isGood_135 : decode b_M_isGood 135 = .ok (.invokestatic 147, 3) := by decide +kernel
theorem d_M_isGood_138 : decode b_M_isGood 138 = .ok (.ifCond .eq 7, 3) := by decide +kernel
theorem d_M_isGood_141 : decode b_M_isGood 141 = .ok (.iconst 1, 1) := by decide +kernel
theorem d_M_isGood_142 : decode b_M_isGood 142 = .ok (.goto 4, 3) := by decide +kernel
theorem d_M_isGood_145 : decode b_M_isGood 145 = .ok (.iconst 0, 1) := by decide +kernel
theorem d_M_isGood_146 : decode b_M_isGood 146 = .ok (.ireturn, 1) := by decide +kernel
theorem d_M_isGood_147 : decode b_M_isGood 147 = .ok (.iload_n 2, 1) := by decide +kernel
theorem d_M_isGood_148 : decode b_M_isGood 148 = .ok (.invokestatic 147, 3) := by decide +kernel
theorem d_M_isGood_151 : decode b_M_isGood 151 = .ok (.ifCond .eq 14, 3) := by decide +kernel
theorem d_M_isGood_154 : decode b_M_isGood 154 = .ok (.iload_n 3, 1) := by decide +kernel
theorem d_M_isGood_155 : decode b_M_isGood 155 = .ok (.invokestatic 141, 3) := by decide +kernel
theorem d_M_isGood_158 : decode b_M_isGood 158 = .ok (.ifCond .eq 7, 3) := by decide +kernel
theorem d_M_isGood_161 : decode b_M_isGood 161 = .ok (.iconst 1, 1) := by decide +kernel
theorem d_M_isGood_162 : decode b_M_isGood 162 = .ok (.goto 4, 3) := by decide +kernel
theorem d_M_isGood_165 : decode b_M_isGood 165 = .ok (.iconst 0, 1) := by decide +kernel
theorem d_M_isGood_166 : decode b_M_isGood 166 = .ok (.ireturn, 1) := by decide +kernel
theorem d_M_isGood_167 : decode b_M_isGood 167 = .ok (.iload_n 2, 1) := by decide +kernel
theorem d_M_isGood_168 : decode b_M_isGood 168 = .ok (.invokestatic 141, 3) := by decide +kernel
theorem d_M_isGood_171 : decode b_M_isGood 171 = .ok (.ifCond .eq 30, 3) := by decide +kernel
theorem d_M_isGood_174 : decode b_M_isGood 174 = .ok (.iload_n 3, 1) := by decide +kernel
theorem d_M_isGood_175 : decode b_M_isGood 175 = .ok (.invokestatic 141, 3) := by decide +kernel
theorem d_M_isGood_178 : decode b_M_isGood 178 = .ok (.ifCond .eq 23, 3) := by decide +kernel
theorem d_M_isGood_181 : decode b_M_isGood 181 = .ok (.iload 5, 2) := by decide +kernel
theorem d_M_isGood_183 : decode b_M_isGood 183 = .ok (.invokestatic 141, 3) := by decide +kernel
theorem d_M_isGood_186 : decode b_M_isGood 186 = .ok (.ifCond .eq 15, 3) := by decide +kernel
theorem d_M_isGood_189 : decode b_M_isGood 189 = .ok (.iload 6, 2) := by decide +kernel
theorem d_M_isGood_191 : decode b_M_isGood 191 = .ok (.invokestatic 141, 3) := by decide +kernel
theorem d_M_isGood_194 : decode b_M_isGood 194 = .ok (.ifCond .eq 7, 3) := by decide +kernel
theorem d_M_isGood_197 : decode b_M_isGood 197 = .ok (.iconst 1, 1) := by decide +kernel
theorem d_M_isGood_198 : decode b_M_isGood 198 = .ok (.goto 4, 3) := by decide +kernel
theorem d_M_isGood_201 : decode b_M_isGood 201 = .ok (.iconst 0, 1) := by decide +kernel
theorem d_M_isGood_202 : decode b_M_isGood 202 = .ok (.ireturn, 1) := by decide +kernel
theorem d_M_isGood_203 : decode b_M_isGood 203 = .ok (.iload_n 2, 1) := by decide +kernel
theorem d_M_isGood_204 : decode b_M_isGood 204 = .ok (.invokestatic 141, 3) := by decide +kernel
theorem d_M_isGood_207 : decode b_M_isGood 207 = .ok (.ifCond .eq 14, 3) := by decide +kernel
theorem d_M_isGood_210 : decode b_M_isGood 210 = .ok (.iload_n 3, 1) := by decide +kernel
theorem d_M_isGood_211 : decode b_M_isGood 211 = .ok (.invokestatic 141, 3) := by decide +kernel
theorem d_M_isGood_214 : decode b_M_isGood 214 = .ok (.ifCond .eq 7, 3) := by decide +kernel
theorem d_M_isGood_217 : decode b_M_isGood 217 = .ok (.iconst 1, 1) := by decide +kernel
theorem d_M_isGood_218 : decode b_M_isGood 218 = .ok (.goto 4, 3) := by decide +kernel
theorem d_M_isGood_221 : decode b_M_isGood 221 = .ok (.iconst 0, 1) := by decide +kernel
theorem d_M_isGood_222 : decode b_M_isGood 222 = .ok (.ireturn, 1) := by decide +kernel
theorem d_M_isName_0 : decode b_M_isName 0 = .ok (.iload_n 0, 1) := by decide +kernel
theorem d_M_isName_1 : decode b_M_isName 1 = .ok (.ifCond .lt 13, 3) := by decide +kernel
theorem d_M_isName_4 : decode b_M_isName 4 = .ok (.iload_n 0, 1) := by decide +kernel
theorem d_M_isName_5 : decode b_M_isName 5 = .ok (.bipush 6, 2) := by decide +kernel
theorem d_M_isName_7 : decode b_M_isName 7 = .ok (.if_icmp .ge 7, 3) := by decide +kernel
theorem d_M_isName_10 : decode b_M_isName 10 = .ok (.iconst 1, 1) := by decide +kernel
theorem d_M_isName_11 : decode b_M_isName 11 = .ok (.goto 4, 3) := by decide +kernel
theorem d_M_isName_14 : decode b_M_isName 14 = .ok (.iconst 0, 1) := by decide +kernel
theorem d_M_isName_15 : decode b_M_isName 15 = .ok (.ireturn, 1) := by decide +kernel
theorem d_M_isField_0 : decode b_M_isField 0 = .ok (.iload_n 1, 1) := by decide +kernel
theorem d_M_isField_1 : decode b_M_isField 1 = .ok (.ifCond .lt 15, 3) := by decide +kernel
theorem d_M_isField_4 : decode b_M_isField 4 = .ok (.iload_n 1, 1) := by decide +kernel
theorem d_M_isField_5 : decode b_M_isField 5 = .ok (.aload_n 0, 1) := by decide +kernel
theorem d_M_isField_6 : decode b_M_isField 6 = .ok (.getfield 113, 3) := by decide +kernel
theorem d_M_isField_9 : decode b_M_isField 9 = .ok (.if_icmp .ge 7, 3) := by decide +kernel
theorem d_M_isField_12 : decode b_M_isField 12 = .ok (.iconst 1, 1) := by decide +kernel
theorem d_M_isField_13 : decode b_M_isField 13 = .ok (.goto 4, 3) := by decide +kernel
theorem d_M_isField_16 : decode b_M_isField 16 = .ok (.iconst 0, 1) := by decide +kernel
theorem d_M_isField_17 : decode b_M_isField 17 = .ok (.ireturn, 1) := by decide +kernel
theorem d_M_isStatic_0 : decode b_M_isStatic 0 = .ok (.iload_n 0, 1) := by decide +kernel
theorem d_M_isStatic_1 : decode b_M_isStatic 1 = .ok (.ifCond .lt 12, 3) := by decide +kernel
theorem d_M_isStatic_4 : decode b_M_isStatic 4 = .ok (.iload_n 0, 1) := by decide +kernel
theorem d_M_isStatic_5 : decode b_M_isStatic 5 = .ok (.iconst 4, 1) := by decide +kernel
theorem d_M_isStatic_6 : decode b_M_isStatic 6 = .ok (.if_icmp .ge 7, 3) := by decide +kernel
theorem d_M_isStatic_9 : decode b_M_isStatic 9 = .ok (.iconst 1, 1) := by decide +kernel
theorem d_M_isStatic_10 : decode b_M_isStatic 10 = .ok (.goto 4, 3) := by decide +kernel
theorem d_M_isStatic_13 : decode b_M_isStatic 13 = .ok (.iconst 0, 1) := by decide +kernel
theorem d_M_isStatic_14 : decode b_M_isStatic 14 = .ok (.ireturn, 1) := by decide +kernel
theorem d_M_mode_0 : decode b_M_mode 0 = .ok (.iload_n 1, 1) := by decide +kernel
theorem d_M_mode_1 : decode b_M_mode 1 = .ok (.ifCond .lt 8, 3) := by decide +kernel
theorem d_M_mode_4 : decode b_M_mode 4 = .ok (.iload_n 1, 1) := by decide +kernel
theorem d_M_mode_5 : decode b_M_mode 5 = .ok (.iconst 1, 1) := by decide +kernel
theorem d_M_mode_6 : decode b_M_mode 6 = .ok (.if_icmp .le 6, 3) := by decide +kernel
theorem d_M_mode_9 : decode b_M_mode 9 = .ok (.bipush (-2), 2) := by decide +kernel
theorem d_M_mode_11 : decode b_M_mode 11 = .ok (.ireturn, 1) := by decide +kernel
theorem d_M_mode_12 : decode b_M_mode 12 = .ok (.aload_n 0, 1) := by decide +kernel
theorem d_M_mode_13 : decode b_M_mode 13 = .ok (.getfield 163, 3) := by decide +kernel
theorem d_M_mode_16 : decode b_M_mode 16 = .ok (.istore_n 2, 1) := by decide +kernel
theorem d_M_mode_17 : decode b_M_mode 17 = .ok (.aload_n 0, 1) := by decide +kernel
theorem d_M_mode_18 : decode b_M_mode 18 = .ok (.iload_n 1, 1) := by decide +kernel
theorem d_M_mode_19 : decode b_M_mode 19 = .ok (.putfield 163, 3) := by decide +kernel
theorem d_M_mode_22 : decode b_M_mode 22 = .ok (.aload_n 0, 1) := by decide +kernel
theorem d_M_mode_23 : decode b_M_mode 23 = .ok (.invokevirtual 134, 3) := by decide +kernel
theorem d_M_mode_26 : decode b_M_mode 26 = .ok (.iload_n 2, 1) := by decide +kernel
theorem d_M_mode_27 : decode b_M_mode 27 = .ok (.ireturn, 1) := by decide +kernel
theorem d_M_clear_0 : decode b_M_clear 0 = .ok (.aload_n 0, 1) := by decide +kernel
theorem d_M_clear_1 : decode b_M_clear 1 = .ok (.getfield 157, 3) := by decide +kernel
theorem d_M_clear_4 : decode b_M_clear 4 = .ok (.istore_n 1, 1) := by decide +kernel
theorem d_M_clear_5 : decode b_M_clear 5 = .ok (.aload_n 0, 1) := by decide +kernel
theorem d_M_clear_6 : decode b_M_clear 6 = .ok (.iconst 0, 1) := by decide +kernel
theorem d_M_clear_7 : decode b_M_clear 7 = .ok (.putfield 109, 3) := by decide +kernel
theorem d_M_clear_10 : decode b_M_clear 10 = .ok (.aload_n 0, 1) := by decide +kernel
theorem d_M_clear_11 : decode b_M_clear 11 = .ok (.iconst 0, 1) := by decide +kernel
theorem d_M_clear_12 : decode b_M_clear 12 = .ok (.putfield 113, 3) := by decide +kernel
theorem d_M_clear_15 : decode b_M_clear 15 = .ok (.aload_n 0, 1) := by decide +kernel
theorem d_M_clear_16 : decode b_M_clear 16 = .ok (.iconst 0, 1) := by decide +kernel
theorem d_M_clear_17 : decode b_M_clear 17 = .ok (.putfield 116, 3) := by decide +kernel
theorem d_M_clear_20 : decode b_M_clear 20 = .ok (.aload_n 0, 1) := by decide +kernel
theorem d_M_clear_21 : decode b_M_clear 21 = .ok (.iconst 0, 1) := by decide +kernel
theorem d_M_clear_22 : decode b_M_clear 22 = .ok (.putfield 157, 3) := by decide +kernel
theorem d_M_clear_25 : decode b_M_clear 25 = .ok (.aload_n 0, 1) := by decide +kernel
theorem d_M_clear_26 : decode b_M_clear 26 = .ok (.iconst 0, 1) := by decide +kernel
theorem d_M_clear_27 : decode b_M_clear 27 = .ok (.putfield 160, 3) := by decide +kernel
theorem d_M_clear_30 : decode b_M_clear 30 = .ok (.aload_n 0, 1) := by decide +kernel
theorem d_M_clear_31 : decode b_M_clear 31 = .ok (.invokevirtual 134, 3) := by decide +kernel
theorem d_M_clear_34 : decode b_M_clear 34 = .ok (.iload_n 1, 1) := by decide +kernel
theorem d_M_clear_35 : decode b_M_clear 35 = .ok (.ireturn, 1) := by decide +kernel
theorem d_M_points_0 : decode b_M_points 0 = .ok (.aload_n 0, 1) := by decide +kernel
theorem d_M_points_1 : decode b_M_points 1 = .ok (.iload_n 1, 1) := by decide +kernel
theorem d_M_points_2 : decode b_M_points 2 = .ok (.invokevirtual 150, 3) := by decide +kernel
theorem d_M_points_5 : decode b_M_points 5 = .ok (.ifCond .eq 23, 3) := by decide +kernel
theorem d_M_points_8 : decode b_M_points 8 = .ok (.iload_n 3, 1) := by decide +kernel
theorem d_M_points_9 : decode b_M_points 9 = .ok (.invokestatic 141, 3) := by decide +kernel
theorem d_M_points_12 : decode b_M_points 12 = .ok (.ifCond .eq 16, 3) := by decide +kernel
theorem d_M_points_15 : decode b_M_points 15 = .ok (.iload_n 2, 1) := by decide +kernel
theorem d_M_points_16 : decode b_M_points 16 = .ok (.iconst (-1), 1) := by decide +kernel
theorem d_M_points_17 : decode b_M_points 17 = .ok (.if_icmp .eq 13, 3) := by decide +kernel
theorem d_M_points_20 : decode b_M_points 20 = .ok (.aload_n 0, 1) := by decide +kernel
theorem d_M_points_21 : decode b_M_points 21 = .ok (.iload_n 2, 1) := by decide +kernel
theorem d_M_points_22 : decode b_M_points 22 = .ok (.invokevirtual 210, 3) := by decide +kernel
theorem d_M_points_25 : decode b_M_points 25 = .ok (.ifCond .ne 5, 3) := by decide +kernel
theorem d_M_points_28 : decode b_M_points 28 = .ok (.iconst (-1), 1) := by decide +kernel
theorem d_M_points_29 : decode b_M_points 29 = .ok (.ireturn, 1) := by decide +kernel
theorem d_M_points_30 : decode b_M_points 30 = .ok (.aload_n 0, 1) := by decide +kernel
theorem d_M_points_31 : decode b_M_points 31 = .ok (.invokevirtual 213, 3) := by decide +kernel
theorem d_M_points_34 : decode b_M_points 34 = .ok (.iload_n 2, 1) := by decide +kernel
theorem d_M_points_35 : decode b_M_points 35 = .ok (.ifCond .ge 12, 3) := by decide +kernel
theorem d_M_points_38 : decode b_M_points 38 = .ok (.aload_n 0, 1) := by decide +kernel
theorem d_M_points_39 : decode b_M_points 39 = .ok (.iload_n 1, 1) := by decide +kernel
theorem d_M_points_40 : decode b_M_points 40 = .ok (.iload_n 3, 1) := by decide +kernel
theorem d_M_points_41 : decode b_M_points 41 = .ok (.invokevirtual 183, 3) := by decide +kernel
theorem d_M_points_44 : decode b_M_points 44 = .ok (.goto 14, 3) := by decide +kernel
theorem d_M_points_47 : decode b_M_points 47 = .ok (.aload_n 0, 1) := by decide +kernel
theorem d_M_points_48 : decode b_M_points 48 = .ok (.getfield 49, 3) := by decide +kernel
theorem d_M_points_51 : decode b_M_points 51 = .ok (.iload_n 1, 1) := by decide +kernel
theorem d_M_points_52 : decode b_M_points 52 = .ok (.iload_n 2, 1) := by decide +kernel
theorem d_M_points_53 : decode b_M_points 53 = .ok (.iload_n 3, 1) := by decide +kernel
theorem d_M_points_54 : decode b_M_points 54 = .ok (.invokestatic 166, 3) := by decide +kernel
theorem d_M_points_57 : decode b_M_points 57 = .ok (.iaload, 1) := by decide +kernel
theorem d_M_points_58 : decode b_M_points 58 = .ok (.ireturn, 1) := by decide +kernel
theorem d_M_isContext_0 : decode b_M_isContext 0 = .ok (.iload_n 1, 1) := by decide +kernel
theorem d_M_isContext_1 : decode b_M_isContext 1 = .ok (.ifCond .lt 26, 3) := by decide +kernel
theorem d_M_isContext_4 : decode b_M_isContext 4 = .ok (.iload_n 1, 1) := by decide +kernel
theorem d_M_isContext_5 : decode b_M_isContext 5 = .ok (.aload_n 0, 1) := by decide +kernel
theorem d_M_isContext_6 : decode b_M_isContext 6 = .ok (.getfield 163, 3) := by decide +kernel
theorem d_M_isContext_9 : decode b_M_isContext 9 = .ok (.ifCond .ne 7, 3) := by decide +kernel
theorem d_M_isContext_12 : decode b_M_isContext 12 = .ok (.iconst 0, 1) := by decide +kernel
theorem d_M_isContext_13 : decode b_M_isContext 13 = .ok (.goto 7, 3) := by decide +kernel
theorem d_M_isContext_16 : decode b_M_isContext 16 = .ok (.aload_n 0, 1) := by decide +kernel
theorem d_M_isContext_17 : decode b_M_isContext 17 = .ok (.getfield 160, 3) := by decide +kernel
theorem d_M_isContext_20 : decode b_M_isContext 20 = .ok (.if_icmp .gt 7, 3) := by decide +kernel
theorem d_M_isContext_23 : decode b_M_isContext 23 = .ok (.iconst 1, 1) := by decide +kernel
theorem d_M_isContext_24 : decode b_M_isContext 24 = .ok (.goto 4, 3) := by decide +kernel
theorem d_M_isContext_27 : decode b_M_isContext 27 = .ok (.iconst 0, 1) := by decide +kernel
theorem d_M_isContext_28 : decode b_M_isContext 28 = .ok (.ireturn, 1) := by decide +kernel
theorem d_M_know_0 : decode b_M_know 0 = .ok (.aload_n 0, 1) := by decide +kernel
theorem d_M_know_1 : decode b_M_know 1 = .ok (.getfield 127, 3) := by decide +kernel
theorem d_M_know_4 : decode b_M_know 4 = .ok (.ifCond .eq 4, 3) := by decide +kernel
theorem d_M_know_7 : decode b_M_know 7 = .ok (.return_, 1) := by decide +kernel
theorem d_M_know_8 : decode b_M_know 8 = .ok (.aload_n 0, 1) := by decide +kernel
theorem d_M_know_9 : decode b_M_know 9 = .ok (.iconst 1, 1) := by decide +kernel
theorem d_M_know_10 : decode b_M_know 10 = .ok (.putfield 127, 3) := by decide +kernel
theorem d_M_know_13 : decode b_M_know 13 = .ok (.aload_n 0, 1) := by decide +kernel
theorem d_M_know_14 : decode b_M_know 14 = .ok (.invokevirtual 186, 3) := by decide +kernel
theorem d_M_know_17 : decode b_M_know 17 = .ok (.aload_n 0, 1) := by decide +kernel
theorem d_M_know_18 : decode b_M_know 18 = .ok (.iconst 0, 1) := by decide +kernel
theorem d_M_know_19 : decode b_M_know 19 = .ok (.putfield 189, 3) := by decide +kernel
theorem d_M_know_22 : decode b_M_know 22 = .ok (.iconst 1, 1) := by decide +kernel
theorem d_M_know_23 : decode b_M_know 23 = .ok (.istore_n 1, 1) := by decide +kernel
theorem d_M_know_24 : decode b_M_know 24 = .ok (.iload_n 1, 1) := by decide +kernel
theorem d_M_know_25 : decode b_M_know 25 = .ok (.ifCond .eq 104, 3) := by decide +kernel
theorem d_M_know_28 : decode b_M_know 28 = .ok (.aload_n 0, 1) := by decide +kernel
theorem d_M_know_29 : decode b_M_know 29 = .ok (.invokevirtual 192, 3) := by decide +kernel
theorem d_M_know_32 : decode b_M_know 32 = .ok (.iconst 0, 1) := by decide +kernel
theorem d_M_know_33 : decode b_M_know 33 = .ok (.istore_n 2, 1) := by decide +kernel
theorem d_M_know_34 : decode b_M_know 34 = .ok (.iload_n 2, 1) := by decide +kernel
theorem d_M_know_35 : decode b_M_know 35 = .ok (.aload_n 0, 1) := by decide +kernel
theorem d_M_know_36 : decode b_M_know 36 = .ok (.getfield 157, 3) := by decide +kernel
theorem d_M_know_39 : decode b_M_know 39 = .ok (.if_icmp .ge 48, 3) := by decide +kernel
theorem d_M_know_42 : decode b_M_know 42 = .ok (.iconst 0, 1) := by decide +kernel
theorem d_M_know_43 : decode b_M_know 43 = .ok (.istore_n 3, 1) := by decide +kernel
theorem d_M_know_44 : decode b_M_know 44 = .ok (.iload_n 3, 1) := by decide +kernel
theorem d_M_know_45 : decode b_M_know 45 = .ok (.bipush 21, 2) := by decide +kernel
theorem d_M_know_47 : decode b_M_know 47 = .ok (.if_icmp .ge 34, 3) := by decide +kernel
theorem d_M_know_50 : decode b_M_know 50 = .ok (.aload_n 0, 1) := by decide +kernel
theorem d_M_know_51 : decode b_M_know 51 = .ok (.getfield 73, 3) := by decide +kernel
theorem d_M_know_54 : decode b_M_know 54 = .ok (.aload_n 0, 1) := by decide +kernel
theorem d_M_know_55 : decode b_M_know 55 = .ok (.getfield 22, 3) := by decide +kernel
theorem d_M_know_58 : decode b_M_know 58 = .ok (.iload_n 2, 1) := by decide +kernel
theorem d_M_know_59 : decode b_M_know 59 = .ok (.iaload, 1) := by decide +kernel
theorem d_M_know_60 : decode b_M_know 60 = .ok (.iaload, 1) := by decide +kernel
theorem d_M_know_61 : decode b_M_know 61 = .ok (.iload_n 3, 1) := by decide +kernel
theorem d_M_know_62 : decode b_M_know 62 = .ok (.ishr, 1) := by decide +kernel
theorem d_M_know_63 : decode b_M_know 63 = .ok (.iconst 1, 1) := by decide +kernel
theorem d_M_know_64 : decode b_M_know 64 = .ok (.iand, 1) := by decide +kernel
theorem d_M_know_65 : decode b_M_know 65 = .ok (.iconst 1, 1) := by decide +kernel
theorem d_M_know_66 : decode b_M_know 66 = .ok (.if_icmp .ne 9, 3) := by decide +kernel
theorem d_M_know_69 : decode b_M_know 69 = .ok (.aload_n 0, 1) := by decide +kernel
theorem d_M_know_70 : decode b_M_know 70 = .ok (.iload_n 2, 1) := by decide +kernel
theorem d_M_know_71 : decode b_M_know 71 = .ok (.iload_n 3, 1) := by decide +kernel
theorem d_M_know_72 : decode b_M_know 72 = .ok (.invokevirtual 195, 3) := by decide +kernel
theorem d_M_know_75 : decode b_M_know 75 = .ok (.iinc 3 1, 3) := by decide +kernel
theorem d_M_know_78 : decode b_M_know 78 = .ok (.goto (-34), 3) := by decide +kernel
theorem d_M_know_81 : decode b_M_know 81 = .ok (.iinc 2 1, 3) := by decide +kernel
theorem d_M_know_84 : decode b_M_know 84 = .ok (.goto (-50), 3) := by decide +kernel
theorem d_M_know_87 : decode b_M_know 87 = .ok (.aload_n 0, 1) := by decide +kernel
theorem d_M_know_88 : decode b_M_know 88 = .ok (.invokevirtual 199, 3) := by decide +kernel
theorem d_M_know_91 : decode b_M_know 91 = .ok (.ifCond .ne 7, 3) := by decide +kernel
theorem d_M_know_94 : decode b_M_know 94 = .ok (.iconst 1, 1) := by decide +kernel
theorem d_M_know_95 : decode b_M_know 95 = .ok (.goto 4, 3) := by decide +kernel
theorem d_M_know_98 : decode b_M_know 98 = .ok (.iconst 0, 1) := by decide +kernel
theorem d_M_know_99 : decode b_M_know 99 = .ok (.istore_n 1, 1) := by decide +kernel
theorem d_M_know_100 : decode b_M_know 100 = .ok (.iload_n 1, 1) := by decide +kernel
theorem d_M_know_101 : decode b_M_know 101 = .ok (.ifCond .eq (-77), 3) := by decide +kernel
theorem d_M_know_104 : decode b_M_know 104 = .ok (.aload_n 0, 1) := by decide +kernel
theorem d_M_know_105 : decode b_M_know 105 = .ok (.invokevirtual 203, 3) := by decide +kernel
theorem d_M_know_108 : decode b_M_know 108 = .ok (.aload_n 0, 1) := by decide +kernel
theorem d_M_know_109 : decode b_M_know 109 = .ok (.dup, 1) := by decide +kernel
theorem d_M_know_110 : decode b_M_know 110 = .ok (.getfield 189, 3) := by decide +kernel
theorem d_M_know_113 : decode b_M_know 113 = .ok (.iconst 1, 1) := by decide +kernel
theorem d_M_know_114 : decode b_M_know 114 = .ok (.iadd, 1) := by decide +kernel
theorem d_M_know_115 : decode b_M_know 115 = .ok (.putfield 189, 3) := by decide +kernel
theorem d_M_know_118 : decode b_M_know 118 = .ok (.aload_n 0, 1) := by decide +kernel
theorem d_M_know_119 : decode b_M_know 119 = .ok (.aload_n 0, 1) := by decide +kernel
theorem d_M_know_120 : decode b_M_know 120 = .ok (.getfield 189, 3) := by decide +kernel
theorem d_M_know_123 : decode b_M_know 123 = .ok (.invokevirtual 206, 3) := by decide +kernel
theorem d_M_know_126 : decode b_M_know 126 = .ok (.goto (-102), 3) := by decide +kernel
theorem d_M_know_129 : decode b_M_know 129 = .ok (.return_, 1) := by decide +kernel
theorem d_M_empty_0 : decode b_M_empty 0 = .ok (.iconst 0, 1) := by decide +kernel
theorem d_M_empty_1 : decode b_M_empty 1 = .ok (.istore_n 1, 1) := by decide +kernel
theorem d_M_empty_2 : decode b_M_empty 2 = .ok (.iload_n 1, 1) := by decide +kernel
theorem d_M_empty_3 : decode b_M_empty 3 = .ok (.sipush 1260, 3) := by decide +kernel
theorem d_M_empty_6 : decode b_M_empty 6 = .ok (.if_icmp .ge 16, 3) := by decide +kernel
theorem d_M_empty_9 : decode b_M_empty 9 = .ok (.aload_n 0, 1) := by decide +kernel
theorem d_M_empty_10 : decode b_M_empty 10 = .ok (.getfield 49, 3) := by decide +kernel
theorem d_M_empty_13 : decode b_M_empty 13 = .ok (.iload_n 1, 1) := by decide +kernel
theorem d_M_empty_14 : decode b_M_empty 14 = .ok (.iconst 0, 1) := by decide +kernel
theorem d_M_empty_15 : decode b_M_empty 15 = .ok (.iastore, 1) := by decide +kernel
theorem d_M_empty_16 : decode b_M_empty 16 = .ok (.iinc 1 1, 3) := by decide +kernel
theorem d_M_empty_19 : decode b_M_empty 19 = .ok (.goto (-17), 3) := by decide +kernel
theorem d_M_empty_22 : decode b_M_empty 22 = .ok (.iconst 0, 1) := by decide +kernel
theorem d_M_empty_23 : decode b_M_empty 23 = .ok (.istore_n 1, 1) := by decide +kernel
theorem d_M_empty_24 : decode b_M_empty 24 = .ok (.iload_n 1, 1) := by decide +kernel
theorem d_M_empty_25 : decode b_M_empty 25 = .ok (.sipush 160, 3) := by decide +kernel
theorem d_M_empty_28 : decode b_M_empty 28 = .ok (.if_icmp .ge 16, 3) := by decide +kernel
theorem d_M_empty_31 : decode b_M_empty 31 = .ok (.aload_n 0, 1) := by decide +kernel
theorem d_M_empty_32 : decode b_M_empty 32 = .ok (.getfield 55, 3) := by decide +kernel
theorem d_M_empty_35 : decode b_M_empty 35 = .ok (.iload_n 1, 1) := by decide +kernel
theorem d_M_empty_36 : decode b_M_empty 36 = .ok (.iconst 0, 1) := by decide +kernel
theorem d_M_empty_37 : decode b_M_empty 37 = .ok (.iastore, 1) := by decide +kernel
theorem d_M_empty_38 : decode b_M_empty 38 = .ok (.iinc 1 1, 3) := by decide +kernel
theorem d_M_empty_41 : decode b_M_empty 41 = .ok (.goto (-17), 3) := by decide +kernel
theorem d_M_empty_44 : decode b_M_empty 44 = .ok (.iconst 0, 1) := by decide +kernel
theorem d_M_empty_45 : decode b_M_empty 45 = .ok (.istore_n 1, 1) := by decide +kernel
theorem d_M_empty_46 : decode b_M_empty 46 = .ok (.iload_n 1, 1) := by decide +kernel
theorem d_M_empty_47 : decode b_M_empty 47 = .ok (.bipush 20, 2) := by decide +kernel
theorem d_M_empty_49 : decode b_M_empty 49 = .ok (.if_icmp .ge 16, 3) := by decide +kernel
theorem d_M_empty_52 : decode b_M_empty 52 = .ok (.aload_n 0, 1) := by decide +kernel
theorem d_M_empty_53 : decode b_M_empty 53 = .ok (.getfield 61, 3) := by decide +kernel
theorem d_M_empty_56 : decode b_M_empty 56 = .ok (.iload_n 1, 1) := by decide +kernel
theorem d_M_empty_57 : decode b_M_empty 57 = .ok (.iconst 0, 1) := by decide +kernel
theorem d_M_empty_58 : decode b_M_empty 58 = .ok (.iastore, 1) := by decide +kernel
theorem d_M_empty_59 : decode b_M_empty 59 = .ok (.iinc 1 1, 3) := by decide +kernel
theorem d_M_empty_62 : decode b_M_empty 62 = .ok (.goto (-16), 3) := by decide +kernel
theorem d_M_empty_65 : decode b_M_empty 65 = .ok (.iconst 0, 1) := by decide +kernel
theorem d_M_empty_66 : decode b_M_empty 66 = .ok (.istore_n 1, 1) := by decide +kernel
theorem d_M_empty_67 : decode b_M_empty 67 = .ok (.iload_n 1, 1) := by decide +kernel
theorem d_M_empty_68 : decode b_M_empty 68 = .ok (.iconst 4, 1) := by decide +kernel
theorem d_M_empty_69 : decode b_M_empty 69 = .ok (.if_icmp .ge 16, 3) := by decide +kernel
theorem d_M_empty_72 : decode b_M_empty 72 = .ok (.aload_n 0, 1) := by decide +kernel
theorem d_M_empty_73 : decode b_M_empty 73 = .ok (.getfield 67, 3) := by decide +kernel
theorem d_M_empty_76 : decode b_M_empty 76 = .ok (.iload_n 1, 1) := by decide +kernel
theorem d_M_empty_77 : decode b_M_empty 77 = .ok (.iconst 0, 1) := by decide +kernel
theorem d_M_empty_78 : decode b_M_empty 78 = .ok (.iastore, 1) := by decide +kernel
theorem d_M_empty_79 : decode b_M_empty 79 = .ok (.iinc 1 1, 3) := by decide +kernel
theorem d_M_empty_82 : decode b_M_empty 82 = .ok (.goto (-15), 3) := by decide +kernel
theorem d_M_empty_85 : decode b_M_empty 85 = .ok (.iconst 0, 1) := by decide +kernel
theorem d_M_empty_86 : decode b_M_empty 86 = .ok (.istore_n 1, 1) := by decide +kernel
theorem d_M_empty_87 : decode b_M_empty 87 = .ok (.iload_n 1, 1) := by decide +kernel
theorem d_M_empty_88 : decode b_M_empty 88 = .ok (.bipush 10, 2) := by decide +kernel
theorem d_M_empty_90 : decode b_M_empty 90 = .ok (.if_icmp .ge 31, 3) := by decide +kernel
theorem d_M_empty_93 : decode b_M_empty 93 = .ok (.aload_n 0, 1) := by decide +kernel
theorem d_M_empty_94 : decode b_M_empty 94 = .ok (.getfield 73, 3) := by decide +kernel
theorem d_M_empty_97 : decode b_M_empty 97 = .ok (.iload_n 1, 1) := by decide +kernel
theorem d_M_empty_98 : decode b_M_empty 98 = .ok (.iload_n 1, 1) := by decide +kernel
theorem d_M_empty_99 : decode b_M_empty 99 = .ok (.ifCond .ne 14, 3) := by decide +kernel
theorem d_M_empty_102 : decode b_M_empty 102 = .ok (.aload_n 0, 1) := by decide +kernel
theorem d_M_empty_103 : decode b_M_empty 103 = .ok (.getfield 116, 3) := by decide +kernel
theorem d_M_empty_106 : decode b_M_empty 106 = .ok (.ifCond .le 7, 3) := by decide +kernel
theorem d_M_empty_109 : decode b_M_empty 109 = .ok (.iconst 1, 1) := by decide +kernel
theorem d_M_empty_110 : decode b_M_empty 110 = .ok (.goto 4, 3) := by decide +kernel
theorem d_M_empty_113 : decode b_M_empty 113 = .ok (.iconst 0, 1) := by decide +kernel
theorem d_M_empty_114 : decode b_M_empty 114 = .ok (.iastore, 1) := by decide +kernel
theorem d_M_empty_115 : decode b_M_empty 115 = .ok (.iinc 1 1, 3) := by decide +kernel
theorem d_M_empty_118 : decode b_M_empty 118 = .ok (.goto (-31), 3) := by decide +kernel
theorem d_M_empty_121 : decode b_M_empty 121 = .ok (.iconst 0, 1) := by decide +kernel
theorem d_M_empty_122 : decode b_M_empty 122 = .ok (.istore_n 1, 1) := by decide +kernel
theorem d_M_empty_123 : decode b_M_empty 123 = .ok (.iload_n 1, 1) := by decide +kernel
theorem d_M_empty_124 : decode b_M_empty 124 = .ok (.sipush 1200, 3) := by decide +kernel
theorem d_M_empty_127 : decode b_M_empty 127 = .ok (.if_icmp .ge 16, 3) := by decide +kernel
theorem d_M_empty_130 : decode b_M_empty 130 = .ok (.aload_n 0, 1) := by decide +kernel
theorem d_M_empty_131 : decode b_M_empty 131 = .ok (.getfield 79, 3) := by decide +kernel
theorem d_M_empty_134 : decode b_M_empty 134 = .ok (.iload_n 1, 1) := by decide +kernel
theorem d_M_empty_135 : decode b_M_empty 135 = .ok (.iconst (-1), 1) := by decide +kernel
theorem d_M_empty_136 : decode b_M_empty 136 = .ok (.iastore, 1) := by decide +kernel
theorem d_M_empty_137 : decode b_M_empty 137 = .ok (.iinc 1 1, 3) := by decide +kernel
theorem d_M_empty_140 : decode b_M_empty 140 = .ok (.goto (-17), 3) := by decide +kernel
theorem d_M_empty_143 : decode b_M_empty 143 = .ok (.return_, 1) := by decide +kernel
theorem d_M_copy_0 : decode b_M_copy 0 = .ok (.iconst 0, 1) := by decide +kernel
theorem d_M_copy_1 : decode b_M_copy 1 = .ok (.istore_n 1, 1) := by decide +kernel
theorem d_M_copy_2 : decode b_M_copy 2 = .ok (.iload_n 1, 1) := by decide +kernel
theorem d_M_copy_3 : decode b_M_copy 3 = .ok (.sipush 1260, 3) := by decide +kernel
theorem d_M_copy_6 : decode b_M_copy 6 = .ok (.if_icmp .ge 21, 3) := by decide +kernel
theorem d_M_copy_9 : decode b_M_copy 9 = .ok (.aload_n 0, 1) := by decide +kernel
theorem d_M_copy_10 : decode b_M_copy 10 = .ok (.getfield 52, 3) := by decide +kernel
theorem d_M_copy_13 : decode b_M_copy 13 = .ok (.iload_n 1, 1) := by decide +kernel
theorem d_M_copy_14 : decode b_M_copy 14 = .ok (.aload_n 0, 1) := by decide +kernel
theorem d_M_copy_15 : decode b_M_copy 15 = .ok (.getfield 49, 3) := by decide +kernel
theorem d_M_copy_18 : decode b_M_copy 18 = .ok (.iload_n 1, 1) := by decide +kernel
theorem d_M_copy_19 : decode b_M_copy 19 = .ok (.iaload, 1) := by decide +kernel
theorem d_M_copy_20 : decode b_M_copy 20 = .ok (.iastore, 1) := by decide +kernel
theorem d_M_copy_21 : decode b_M_copy 21 = .ok (.iinc 1 1, 3) := by decide +kernel
theorem d_M_copy_24 : decode b_M_copy 24 = .ok (.goto (-22), 3) := by decide +kernel
theorem d_M_copy_27 : decode b_M_copy 27 = .ok (.iconst 0, 1) := by decide +kernel
theorem d_M_copy_28 : decode b_M_copy 28 = .ok (.istore_n 1, 1) := by decide +kernel
theorem d_M_copy_29 : decode b_M_copy 29 = .ok (.iload_n 1, 1) := by decide +kernel
theorem d_M_copy_30 : decode b_M_copy 30 = .ok (.sipush 160, 3) := by decide +kernel
theorem d_M_copy_33 : decode b_M_copy 33 = .ok (.if_icmp .ge 21, 3) := by decide +kernel
theorem d_M_copy_36 : decode b_M_copy 36 = .ok (.aload_n 0, 1) := by decide +kernel
theorem d_M_copy_37 : decode b_M_copy 37 = .ok (.getfield 58, 3) := by decide +kernel
theorem d_M_copy_40 : decode b_M_copy 40 = .ok (.iload_n 1, 1) := by decide +kernel
theorem d_M_copy_41 : decode b_M_copy 41 = .ok (.aload_n 0, 1) := by decide +kernel
theorem d_M_copy_42 : decode b_M_copy 42 = .ok (.getfield 55, 3) := by decide +kernel
theorem d_M_copy_45 : decode b_M_copy 45 = .ok (.iload_n 1, 1) := by decide +kernel
theorem d_M_copy_46 : decode b_M_copy 46 = .ok (.iaload, 1) := by decide +kernel
theorem d_M_copy_47 : decode b_M_copy 47 = .ok (.iastore, 1) := by decide +kernel
theorem d_M_copy_48 : decode b_M_copy 48 = .ok (.iinc 1 1, 3) := by decide +kernel
theorem d_M_copy_51 : decode b_M_copy 51 = .ok (.goto (-22), 3) := by decide +kernel
theorem d_M_copy_54 : decode b_M_copy 54 = .ok (.iconst 0, 1) := by decide +kernel
theorem d_M_copy_55 : decode b_M_copy 55 = .ok (.istore_n 1, 1) := by decide +kernel
theorem d_M_copy_56 : decode b_M_copy 56 = .ok (.iload_n 1, 1) := by decide +kernel
theorem d_M_copy_57 : decode b_M_copy 57 = .ok (.bipush 20, 2) := by decide +kernel
theorem d_M_copy_59 : decode b_M_copy 59 = .ok (.if_icmp .ge 21, 3) := by decide +kernel
theorem d_M_copy_62 : decode b_M_copy 62 = .ok (.aload_n 0, 1) := by decide +kernel
theorem d_M_copy_63 : decode b_M_copy 63 = .ok (.getfield 64, 3) := by decide +kernel
theorem d_M_copy_66 : decode b_M_copy 66 = .ok (.iload_n 1, 1) := by decide +kernel
theorem d_M_copy_67 : decode b_M_copy 67 = .ok (.aload_n 0, 1) := by decide +kernel
theorem d_M_copy_68 : decode b_M_copy 68 = .ok (.getfield 61, 3) := by decide +kernel
theorem d_M_copy_71 : decode b_M_copy 71 = .ok (.iload_n 1, 1) := by decide +kernel
theorem d_M_copy_72 : decode b_M_copy 72 = .ok (.iaload, 1) := by decide +kernel
theorem d_M_copy_73 : decode b_M_copy 73 = .ok (.iastore, 1) := by decide +kernel
theorem d_M_copy_74 : decode b_M_copy 74 = .ok (.iinc 1 1, 3) := by decide +kernel
theorem d_M_copy_77 : decode b_M_copy 77 = .ok (.goto (-21), 3) := by decide +kernel
theorem d_M_copy_80 : decode b_M_copy 80 = .ok (.iconst 0, 1) := by decide +kernel
theorem d_M_copy_81 : decode b_M_copy 81 = .ok (.istore_n 1, 1) := by decide +kernel
theorem d_M_copy_82 : decode b_M_copy 82 = .ok (.iload_n 1, 1) := by decide +kernel
theorem d_M_copy_83 : decode b_M_copy 83 = .ok (.iconst 4, 1) := by decide +kernel
theorem d_M_copy_84 : decode b_M_copy 84 = .ok (.if_icmp .ge 21, 3) := by decide +kernel
theorem d_M_copy_87 : decode b_M_copy 87 = .ok (.aload_n 0, 1) := by decide +kernel
theorem d_M_copy_88 : decode b_M_copy 88 = .ok (.getfield 70, 3) := by decide +kernel
theorem d_M_copy_91 : decode b_M_copy 91 = .ok (.iload_n 1, 1) := by decide +kernel
theorem d_M_copy_92 : decode b_M_copy 92 = .ok (.aload_n 0, 1) := by decide +kernel
theorem d_M_copy_93 : decode b_M_copy 93 = .ok (.getfield 67, 3) := by decide +kernel
theorem d_M_copy_96 : decode b_M_copy 96 = .ok (.iload_n 1, 1) := by decide +kernel
theorem d_M_copy_97 : decode b_M_copy 97 = .ok (.iaload, 1) := by decide +kernel
theorem d_M_copy_98 : decode b_M_copy 98 = .ok (.iastore, 1) := by decide +kernel
theorem d_M_copy_99 : decode b_M_copy 99 = .ok (.iinc 1 1, 3) := by decide +kernel
theorem d_M_copy_102 : decode b_M_copy 102 = .ok (.goto (-20), 3) := by decide +kernel
theorem d_M_copy_105 : decode b_M_copy 105 = .ok (.iconst 0, 1) := by decide +kernel
theorem d_M_copy_106 : decode b_M_copy 106 = .ok (.istore_n 1, 1) := by decide +kernel
theorem d_M_copy_107 : decode b_M_copy 107 = .ok (.iload_n 1, 1) := by decide +kernel
theorem d_M_copy_108 : decode b_M_copy 108 = .ok (.bipush 10, 2) := by decide +kernel
theorem d_M_copy_110 : decode b_M_copy 110 = .ok (.if_icmp .ge 21, 3) := by decide +kernel
theorem d_M_copy_113 : decode b_M_copy 113 = .ok (.aload_n 0, 1) := by decide +kernel
theorem d_M_copy_114 : decode b_M_copy 114 = .ok (.getfield 76, 3) := by decide +kernel
theorem d_M_copy_117 : decode b_M_copy 117 = .ok (.iload_n 1, 1) := by decide +kernel
theorem d_M_copy_118 : decode b_M_copy 118 = .ok (.aload_n 0, 1) := by decide +kernel
theorem d_M_copy_119 : decode b_M_copy 119 = .ok (.getfield 73, 3) := by decide +kernel
theorem d_M_copy_122 : decode b_M_copy 122 = .ok (.iload_n 1, 1) := by decide +kernel
theorem d_M_copy_123 : decode b_M_copy 123 = .ok (.iaload, 1) := by decide +kernel
theorem d_M_copy_124 : decode b_M_copy 124 = .ok (.iastore, 1) := by decide +kernel
theorem d_M_copy_125 : decode b_M_copy 125 = .ok (.iinc 1 1, 3) := by decide +kernel
theorem d_M_copy_128 : decode b_M_copy 128 = .ok (.goto (-21), 3) := by decide +kernel
theorem d_M_copy_131 : decode b_M_copy 131 = .ok (.return_, 1) := by decide +kernel
theorem d_M_bring_0 : decode b_M_bring 0 = .ok (.aload_n 0, 1) := by decide +kernel
theorem d_M_bring_1 : decode b_M_bring 1 = .ok (.getfield 22, 3) := by decide +kernel
theorem d_M_bring_4 : decode b_M_bring 4 = .ok (.iload_n 1, 1) := by decide +kernel
theorem d_M_bring_5 : decode b_M_bring 5 = .ok (.iaload, 1) := by decide +kernel
theorem d_M_bring_6 : decode b_M_bring 6 = .ok (.istore_n 3, 1) := by decide +kernel
theorem d_M_bring_7 : decode b_M_bring 7 = .ok (.iload_n 3, 1) := by decide +kernel
theorem d_M_bring_8 : decode b_M_bring 8 = .ok (.iload_n 2, 1) := by decide +kernel
theorem d_M_bring_9 : decode b_M_bring 9 = .ok (.aload_n 0, 1) := by decide +kernel
theorem d_M_bring_10 : decode b_M_bring 10 = .ok (.getfield 28, 3) := by decide +kernel
theorem d_M_bring_13 : decode b_M_bring 13 = .ok (.iload_n 1, 1) := by decide +kernel
theorem d_M_bring_14 : decode b_M_bring 14 = .ok (.iaload, 1) := by decide +kernel
theorem d_M_bring_15 : decode b_M_bring 15 = .ok (.invokestatic 166, 3) := by decide +kernel
theorem d_M_bring_18 : decode b_M_bring 18 = .ok (.istore 4, 2) := by decide +kernel
theorem d_M_bring_20 : decode b_M_bring 20 = .ok (.aload_n 0, 1) := by decide +kernel
theorem d_M_bring_21 : decode b_M_bring 21 = .ok (.getfield 25, 3) := by decide +kernel
theorem d_M_bring_24 : decode b_M_bring 24 = .ok (.iload_n 1, 1) := by decide +kernel
theorem d_M_bring_25 : decode b_M_bring 25 = .ok (.iaload, 1) := by decide +kernel
theorem d_M_bring_26 : decode b_M_bring 26 = .ok (.bipush 6, 2) := by decide +kernel
theorem d_M_bring_28 : decode b_M_bring 28 = .ok (.if_icmp .ne 7, 3) := by decide +kernel
theorem d_M_bring_31 : decode b_M_bring 31 = .ok (.iconst 0, 1) := by decide +kernel
theorem d_M_bring_32 : decode b_M_bring 32 = .ok (.goto 10, 3) := by decide +kernel
theorem d_M_bring_35 : decode b_M_bring 35 = .ok (.aload_n 0, 1) := by decide +kernel
theorem d_M_bring_36 : decode b_M_bring 36 = .ok (.getfield 49, 3) := by decide +kernel
theorem d_M_bring_39 : decode b_M_bring 39 = .ok (.iload 4, 2) := by decide +kernel
theorem d_M_bring_41 : decode b_M_bring 41 = .ok (.iaload, 1) := by decide +kernel
theorem d_M_bring_42 : decode b_M_bring 42 = .ok (.istore 5, 2) := by decide +kernel
theorem d_M_bring_44 : decode b_M_bring 44 = .ok (.aload_n 0, 1) := by decide +kernel
theorem d_M_bring_45 : decode b_M_bring 45 = .ok (.getfield 25, 3) := by decide +kernel
theorem d_M_bring_48 : decode b_M_bring 48 = .ok (.iload_n 1, 1) := by decide +kernel
theorem d_M_bring_49 : decode b_M_bring 49 = .ok (.iaload, 1) := by decide +kernel
theorem d_M_bring_50 : decode b_M_bring 50 = .ok (.ifCond .eq 13, 3) := by decide +kernel
theorem d_M_bring_53 : decode b_M_bring 53 = .ok (.aload_n 0, 1) := by decide +kernel
theorem d_M_bring_54 : decode b_M_bring 54 = .ok (.getfield 25, 3) := by decide +kernel
theorem d_M_bring_57 : decode b_M_bring 57 = .ok (.iload_n 1, 1) := by decide +kernel
theorem d_M_bring_58 : decode b_M_bring 58 = .ok (.iaload, 1) := by decide +kernel
theorem d_M_bring_59 : decode b_M_bring 59 = .ok (.iconst 5, 1) := by decide +kernel
theorem d_M_bring_60 : decode b_M_bring 60 = .ok (.if_icmp .ne 7, 3) := by decide +kernel
theorem d_M_bring_63 : decode b_M_bring 63 = .ok (.iconst 0, 1) := by decide +kernel
theorem d_M_bring_64 : decode b_M_bring 64 = .ok (.goto 19, 3) := by decide +kernel
theorem d_M_bring_67 : decode b_M_bring 67 = .ok (.aload_n 0, 1) := by decide +kernel
theorem d_M_bring_68 : decode b_M_bring 68 = .ok (.getfield 49, 3) := by decide +kernel
theorem d_M_bring_71 : decode b_M_bring 71 = .ok (.iload_n 3, 1) := by decide +kernel
theorem d_M_bring_72 : decode b_M_bring 72 = .ok (.iload_n 2, 1) := by decide +kernel
theorem d_M_bring_73 : decode b_M_bring 73 = .ok (.aload_n 0, 1) := by decide +kernel
theorem d_M_bring_74 : decode b_M_bring 74 = .ok (.getfield 31, 3) := by decide +kernel
theorem d_M_bring_77 : decode b_M_bring 77 = .ok (.iload_n 1, 1) := by decide +kernel
theorem d_M_bring_78 : decode b_M_bring 78 = .ok (.iaload, 1) := by decide +kernel
theorem d_M_bring_79 : decode b_M_bring 79 = .ok (.invokestatic 166, 3) := by decide +kernel
theorem d_M_bring_82 : decode b_M_bring 82 = .ok (.iaload, 1) := by decide +kernel
theorem d_M_bring_83 : decode b_M_bring 83 = .ok (.istore 6, 2) := by decide +kernel
theorem d_M_bring_85 : decode b_M_bring 85 = .ok (.aload_n 0, 1) := by decide +kernel
theorem d_M_bring_86 : decode b_M_bring 86 = .ok (.getfield 25, 3) := by decide +kernel
theorem d_M_bring_89 : decode b_M_bring 89 = .ok (.iload_n 1, 1) := by decide +kernel
theorem d_M_bring_90 : decode b_M_bring 90 = .ok (.iaload, 1) := by decide +kernel
theorem d_M_bring_91 : decode b_M_bring 91 = .ok (.tableswitch 137 0 7 #[45, 66, 137, 137, 137, 81, 105, 124], 45) := by decide +kernel
theorem d_M_bring_136 : decode b_M_bring 136 = .ok (.aload_n 0, 1) := by decide +kernel
theorem d_M_bring_137 : decode b_M_bring 137 = .ok (.getfield 52, 3) := by decide +kernel
theorem d_M_bring_140 : decode b_M_bring 140 = .ok (.iload 4, 2) := by decide +kernel
theorem d_M_bring_142 : decode b_M_bring 142 = .ok (.dup2, 1) := by decide +kernel
theorem d_M_bring_143 : decode b_M_bring 143 = .ok (.iaload, 1) := by decide +kernel
theorem d_M_bring_144 : decode b_M_bring 144 = .ok (.iconst 1, 1) := by decide +kernel
theorem d_M_bring_145 : decode b_M_bring 145 = .ok (.aload_n 0, 1) := by decide +kernel
theorem d_M_bring_146 : decode b_M_bring 146 = .ok (.getfield 43, 3) := by decide +kernel
theorem d_M_bring_149 : decode b_M_bring 149 = .ok (.iload_n 1, 1) := by decide +kernel
theorem d_M_bring_150 : decode b_M_bring 150 = .ok (.iaload, 1) := by decide +kernel
theorem d_M_bring_151 : decode b_M_bring 151 = .ok (.ishl, 1) := by decide +kernel
theorem d_M_bring_152 : decode b_M_bring 152 = .ok (.ior, 1) := by decide +kernel
theorem d_M_bring_153 : decode b_M_bring 153 = .ok (.iastore, 1) := by decide +kernel
theorem d_M_bring_154 : decode b_M_bring 154 = .ok (.goto 85, 3) := by decide +kernel
theorem d_M_bring_157 : decode b_M_bring 157 = .ok (.aload_n 0, 1) := by decide +kernel
theorem d_M_bring_158 : decode b_M_bring 158 = .ok (.getfield 52, 3) := by decide +kernel
theorem d_M_bring_161 : decode b_M_bring 161 = .ok (.iload 4, 2) := by decide +kernel
theorem d_M_bring_163 : decode b_M_bring 163 = .ok (.dup2, 1) := by decide +kernel
theorem d_M_bring_164 : decode b_M_bring 164 = .ok (.iaload, 1) := by decide +kernel
theorem d_M_bring_165 : decode b_M_bring 165 = .ok (.iload 6, 2) := by decide +kernel
theorem d_M_bring_167 : decode b_M_bring 167 = .ok (.ior, 1) := by decide +kernel
theorem d_M_bring_168 : decode b_M_bring 168 = .ok (.iastore, 1) := by decide +kernel
theorem d_M_bring_169 : decode b_M_bring 169 = .ok (.goto 70, 3) := by decide +kernel
theorem d_M_bring_172 : decode b_M_bring 172 = .ok (.aload_n 0, 1) := by decide +kernel
theorem d_M_bring_173 : decode b_M_bring 173 = .ok (.getfield 52, 3) := by decide +kernel
theorem d_M_bring_176 : decode b_M_bring 176 = .ok (.iload 4, 2) := by decide +kernel
theorem d_M_bring_178 : decode b_M_bring 178 = .ok (.dup2, 1) := by decide +kernel
theorem d_M_bring_179 : decode b_M_bring 179 = .ok (.iaload, 1) := by decide +kernel
theorem d_M_bring_180 : decode b_M_bring 180 = .ok (.aload_n 0, 1) := by decide +kernel
theorem d_M_bring_181 : decode b_M_bring 181 = .ok (.getfield 67, 3) := by decide +kernel
theorem d_M_bring_184 : decode b_M_bring 184 = .ok (.aload_n 0, 1) := by decide +kernel
theorem d_M_bring_185 : decode b_M_bring 185 = .ok (.getfield 31, 3) := by decide +kernel
theorem d_M_bring_188 : decode b_M_bring 188 = .ok (.iload_n 1, 1) := by decide +kernel
theorem d_M_bring_189 : decode b_M_bring 189 = .ok (.iaload, 1) := by decide +kernel
theorem d_M_bring_190 : decode b_M_bring 190 = .ok (.iaload, 1) := by decide +kernel
theorem d_M_bring_191 : decode b_M_bring 191 = .ok (.ior, 1) := by decide +kernel
theorem d_M_bring_192 : decode b_M_bring 192 = .ok (.iastore, 1) := by decide +kernel
theorem d_M_bring_193 : decode b_M_bring 193 = .ok (.goto 46, 3) := by decide +kernel
theorem d_M_bring_196 : decode b_M_bring 196 = .ok (.aload_n 0, 1) := by decide +kernel
theorem d_M_bring_197 : decode b_M_bring 197 = .ok (.getfield 70, 3) := by decide +kernel
theorem d_M_bring_200 : decode b_M_bring 200 = .ok (.aload_n 0, 1) := by decide +kernel
theorem d_M_bring_201 : decode b_M_bring 201 = .ok (.getfield 28, 3) := by decide +kernel
theorem d_M_bring_204 : decode b_M_bring 204 = .ok (.iload_n 1, 1) := by decide +kernel
theorem d_M_bring_205 : decode b_M_bring 205 = .ok (.iaload, 1) := by decide +kernel
theorem d_M_bring_206 : decode b_M_bring 206 = .ok (.dup2, 1) := by decide +kernel
theorem d_M_bring_207 : decode b_M_bring 207 = .ok (.iaload, 1) := by decide +kernel
theorem d_M_bring_208 : decode b_M_bring 208 = .ok (.iload 6, 2) := by decide +kernel
theorem d_M_bring_210 : decode b_M_bring 210 = .ok (.ior, 1) := by decide +kernel
theorem d_M_bring_211 : decode b_M_bring 211 = .ok (.iastore, 1) := by decide +kernel
theorem d_M_bring_212 : decode b_M_bring 212 = .ok (.goto 27, 3) := by decide +kernel
theorem d_M_bring_215 : decode b_M_bring 215 = .ok (.aload_n 0, 1) := by decide +kernel
theorem d_M_bring_216 : decode b_M_bring 216 = .ok (.iload_n 1, 1) := by decide +kernel
theorem d_M_bring_217 : decode b_M_bring 217 = .ok (.iload_n 2, 1) := by decide +kernel
theorem d_M_bring_218 : decode b_M_bring 218 = .ok (.iload 6, 2) := by decide +kernel
theorem d_M_bring_220 : decode b_M_bring 220 = .ok (.iload 4, 2) := by decide +kernel
theorem d_M_bring_222 : decode b_M_bring 222 = .ok (.invokevirtual 170, 3) := by decide +kernel
theorem d_M_bring_225 : decode b_M_bring 225 = .ok (.goto 14, 3) := by decide +kernel
theorem d_M_bring_228 : decode b_M_bring 228 = .ok (.aload_n 0, 1) := by decide +kernel
theorem d_M_bring_229 : decode b_M_bring 229 = .ok (.iload_n 1, 1) := by decide +kernel
theorem d_M_bring_230 : decode b_M_bring 230 = .ok (.iload 5, 2) := by decide +kernel
theorem d_M_bring_232 : decode b_M_bring 232 = .ok (.iload 6, 2) := by decide +kernel
theorem d_M_bring_234 : decode b_M_bring 234 = .ok (.iload 4, 2) := by decide +kernel
theorem d_M_bring_236 : decode b_M_bring 236 = .ok (.invokevirtual 174, 3) := by decide +kernel
theorem d_M_bring_239 : decode b_M_bring 239 = .ok (.return_, 1) := by decide +kernel
theorem d_M_nameAt_0 : decode b_M_nameAt 0 = .ok (.bipush 126, 2) := by decide +kernel
theorem d_M_nameAt_2 : decode b_M_nameAt 2 = .ok (.iload_n 0, 1) := by decide +kernel
theorem d_M_nameAt_3 : decode b_M_nameAt 3 = .ok (.imul, 1) := by decide +kernel
theorem d_M_nameAt_4 : decode b_M_nameAt 4 = .ok (.bipush 6, 2) := by decide +kernel
theorem d_M_nameAt_6 : decode b_M_nameAt 6 = .ok (.iload_n 1, 1) := by decide +kernel
theorem d_M_nameAt_7 : decode b_M_nameAt 7 = .ok (.imul, 1) := by decide +kernel
theorem d_M_nameAt_8 : decode b_M_nameAt 8 = .ok (.iadd, 1) := by decide +kernel
theorem d_M_nameAt_9 : decode b_M_nameAt 9 = .ok (.iload_n 2, 1) := by decide +kernel
theorem d_M_nameAt_10 : decode b_M_nameAt 10 = .ok (.iadd, 1) := by decide +kernel
theorem d_M_nameAt_11 : decode b_M_nameAt 11 = .ok (.ireturn, 1) := by decide +kernel
theorem d_M_call_0 : decode b_M_call 0 = .ok (.aload_n 0, 1) := by decide +kernel
theorem d_M_call_1 : decode b_M_call 1 = .ok (.getfield 49, 3) := by decide +kernel
theorem d_M_call_4 : decode b_M_call 4 = .ok (.aload_n 0, 1) := by decide +kernel
theorem d_M_call_5 : decode b_M_call 5 = .ok (.getfield 22, 3) := by decide +kernel
theorem d_M_call_8 : decode b_M_call 8 = .ok (.iload_n 1, 1) := by decide +kernel
theorem d_M_call_9 : decode b_M_call 9 = .ok (.iaload, 1) := by decide +kernel
theorem d_M_call_10 : decode b_M_call 10 = .ok (.iload_n 2, 1) := by decide +kernel
theorem d_M_call_11 : decode b_M_call 11 = .ok (.aload_n 0, 1) := by decide +kernel
theorem d_M_call_12 : decode b_M_call 12 = .ok (.getfield 37, 3) := by decide +kernel
theorem d_M_call_15 : decode b_M_call 15 = .ok (.iload_n 1, 1) := by decide +kernel
theorem d_M_call_16 : decode b_M_call 16 = .ok (.iaload, 1) := by decide +kernel
theorem d_M_call_17 : decode b_M_call 17 = .ok (.invokestatic 166, 3) := by decide +kernel
theorem d_M_call_20 : decode b_M_call 20 = .ok (.iaload, 1) := by decide +kernel
theorem d_M_call_21 : decode b_M_call 21 = .ok (.istore 5, 2) := by decide +kernel
theorem d_M_call_23 : decode b_M_call 23 = .ok (.aload_n 0, 1) := by decide +kernel
theorem d_M_call_24 : decode b_M_call 24 = .ok (.getfield 49, 3) := by decide +kernel
theorem d_M_call_27 : decode b_M_call 27 = .ok (.aload_n 0, 1) := by decide +kernel
theorem d_M_call_28 : decode b_M_call 28 = .ok (.getfield 22, 3) := by decide +kernel
theorem d_M_call_31 : decode b_M_call 31 = .ok (.iload_n 1, 1) := by decide +kernel
theorem d_M_call_32 : decode b_M_call 32 = .ok (.iaload, 1) := by decide +kernel
theorem d_M_call_33 : decode b_M_call 33 = .ok (.iload_n 2, 1) := by decide +kernel
theorem d_M_call_34 : decode b_M_call 34 = .ok (.aload_n 0, 1) := by decide +kernel
theorem d_M_call_35 : decode b_M_call 35 = .ok (.getfield 40, 3) := by decide +kernel
theorem d_M_call_38 : decode b_M_call 38 = .ok (.iload_n 1, 1) := by decide +kernel
theorem d_M_call_39 : decode b_M_call 39 = .ok (.iaload, 1) := by decide +kernel
theorem d_M_call_40 : decode b_M_call 40 = .ok (.invokestatic 166, 3) := by decide +kernel
theorem d_M_call_43 : decode b_M_call 43 = .ok (.iaload, 1) := by decide +kernel
theorem d_M_call_44 : decode b_M_call 44 = .ok (.istore 6, 2) := by decide +kernel
theorem d_M_call_46 : decode b_M_call 46 = .ok (.iconst 0, 1) := by decide +kernel
theorem d_M_call_47 : decode b_M_call 47 = .ok (.istore 7, 2) := by decide +kernel
theorem d_M_call_49 : decode b_M_call 49 = .ok (.iload 7, 2) := by decide +kernel
theorem d_M_call_51 : decode b_M_call 51 = .ok (.aload_n 0, 1) := by decide +kernel
theorem d_M_call_52 : decode b_M_call 52 = .ok (.getfield 160, 3) := by decide +kernel
theorem d_M_call_55 : decode b_M_call 55 = .ok (.if_icmp .ge 160, 3) := by decide +kernel
theorem d_M_call_58 : decode b_M_call 58 = .ok (.iload_n 3, 1) := by decide +kernel
theorem d_M_call_59 : decode b_M_call 59 = .ok (.iload 7, 2) := by decide +kernel
theorem d_M_call_61 : decode b_M_call 61 = .ok (.ishr, 1) := by decide +kernel
theorem d_M_call_62 : decode b_M_call 62 = .ok (.iconst 1, 1) := by decide +kernel
theorem d_M_call_63 : decode b_M_call 63 = .ok (.iand, 1) := by decide +kernel
theorem d_M_call_64 : decode b_M_call 64 = .ok (.iconst 1, 1) := by decide +kernel
theorem d_M_call_65 : decode b_M_call 65 = .ok (.if_icmp .ne 23, 3) := by decide +kernel
theorem d_M_call_68 : decode b_M_call 68 = .ok (.aload_n 0, 1) := by decide +kernel
theorem d_M_call_69 : decode b_M_call 69 = .ok (.aload_n 0, 1) := by decide +kernel
theorem d_M_call_70 : decode b_M_call 70 = .ok (.getfield 46, 3) := by decide +kernel
theorem d_M_call_73 : decode b_M_call 73 = .ok (.iload 7, 2) := by decide +kernel
theorem d_M_call_75 : decode b_M_call 75 = .ok (.iaload, 1) := by decide +kernel
theorem d_M_call_76 : decode b_M_call 76 = .ok (.aload_n 0, 1) := by decide +kernel
theorem d_M_call_77 : decode b_M_call 77 = .ok (.getfield 34, 3) := by decide +kernel
theorem d_M_call_80 : decode b_M_call 80 = .ok (.iload_n 1, 1) := by decide +kernel
theorem d_M_call_81 : decode b_M_call 81 = .ok (.iaload, 1) := by decide +kernel
theorem d_M_call_82 : decode b_M_call 82 = .ok (.invokevirtual 180, 3) := by decide +kernel
theorem d_M_call_85 : decode b_M_call 85 = .ok (.goto 4, 3) := by decide +kernel
theorem d_M_call_88 : decode b_M_call 88 = .ok (.iconst (-1), 1) := by decide +kernel
theorem d_M_call_89 : decode b_M_call 89 = .ok (.istore 8, 2) := by decide +kernel
theorem d_M_call_91 : decode b_M_call 91 = .ok (.iload 8, 2) := by decide +kernel
theorem d_M_call_93 : decode b_M_call 93 = .ok (.ifCond .ge 6, 3) := by decide +kernel
theorem d_M_call_96 : decode b_M_call 96 = .ok (.goto 113, 3) := by decide +kernel
theorem d_M_call_99 : decode b_M_call 99 = .ok (.aload_n 0, 1) := by decide +kernel
theorem d_M_call_100 : decode b_M_call 100 = .ok (.getfield 163, 3) := by decide +kernel
theorem d_M_call_103 : decode b_M_call 103 = .ok (.ifCond .ne 7, 3) := by decide +kernel
theorem d_M_call_106 : decode b_M_call 106 = .ok (.iconst 0, 1) := by decide +kernel
theorem d_M_call_107 : decode b_M_call 107 = .ok (.goto 7, 3) := by decide +kernel
theorem d_M_call_110 : decode b_M_call 110 = .ok (.iconst 1, 1) := by decide +kernel
theorem d_M_call_111 : decode b_M_call 111 = .ok (.iload 7, 2) := by decide +kernel
theorem d_M_call_113 : decode b_M_call 113 = .ok (.iadd, 1) := by decide +kernel
theorem d_M_call_114 : decode b_M_call 114 = .ok (.istore 9, 2) := by decide +kernel
theorem d_M_call_116 : decode b_M_call 116 = .ok (.aload_n 0, 1) := by decide +kernel
theorem d_M_call_117 : decode b_M_call 117 = .ok (.getfield 76, 3) := by decide +kernel
theorem d_M_call_120 : decode b_M_call 120 = .ok (.iload 8, 2) := by decide +kernel
theorem d_M_call_122 : decode b_M_call 122 = .ok (.dup2, 1) := by decide +kernel
theorem d_M_call_123 : decode b_M_call 123 = .ok (.iaload, 1) := by decide +kernel
theorem d_M_call_124 : decode b_M_call 124 = .ok (.iconst 1, 1) := by decide +kernel
theorem d_M_call_125 : decode b_M_call 125 = .ok (.iload 9, 2) := by decide +kernel
theorem d_M_call_127 : decode b_M_call 127 = .ok (.ishl, 1) := by decide +kernel
theorem d_M_call_128 : decode b_M_call 128 = .ok (.ior, 1) := by decide +kernel
theorem d_M_call_129 : decode b_M_call 129 = .ok (.iastore, 1) := by decide +kernel
theorem d_M_call_130 : decode b_M_call 130 = .ok (.aload_n 0, 1) := by decide +kernel
theorem d_M_call_131 : decode b_M_call 131 = .ok (.getfield 52, 3) := by decide +kernel
theorem d_M_call_134 : decode b_M_call 134 = .ok (.iload 8, 2) := by decide +kernel
theorem d_M_call_136 : decode b_M_call 136 = .ok (.iload 9, 2) := by decide +kernel
theorem d_M_call_138 : decode b_M_call 138 = .ok (.iconst 0, 1) := by decide +kernel
theorem d_M_call_139 : decode b_M_call 139 = .ok (.invokestatic 166, 3) := by decide +kernel
theorem d_M_call_142 : decode b_M_call 142 = .ok (.dup2, 1) := by decide +kernel
theorem d_M_call_143 : decode b_M_call 143 = .ok (.iaload, 1) := by decide +kernel
theorem d_M_call_144 : decode b_M_call 144 = .ok (.iconst 1, 1) := by decide +kernel
theorem d_M_call_145 : decode b_M_call 145 = .ok (.iload 7, 2) := by decide +kernel
theorem d_M_call_147 : decode b_M_call 147 = .ok (.ishl, 1) := by decide +kernel
theorem d_M_call_148 : decode b_M_call 148 = .ok (.ior, 1) := by decide +kernel
theorem d_M_call_149 : decode b_M_call 149 = .ok (.iastore, 1) := by decide +kernel
theorem d_M_call_150 : decode b_M_call 150 = .ok (.aload_n 0, 1) := by decide +kernel
theorem d_M_call_151 : decode b_M_call 151 = .ok (.getfield 52, 3) := by decide +kernel
theorem d_M_call_154 : decode b_M_call 154 = .ok (.iload 8, 2) := by decide +kernel
theorem d_M_call_156 : decode b_M_call 156 = .ok (.iload 9, 2) := by decide +kernel
theorem d_M_call_158 : decode b_M_call 158 = .ok (.iconst 1, 1) := by decide +kernel
theorem d_M_call_159 : decode b_M_call 159 = .ok (.invokestatic 166, 3) := by decide +kernel
theorem d_M_call_162 : decode b_M_call 162 = .ok (.dup2, 1) := by decide +kernel
theorem d_M_call_163 : decode b_M_call 163 = .ok (.iaload, 1) := by decide +kernel
theorem d_M_call_164 : decode b_M_call 164 = .ok (.iload 5, 2) := by decide +kernel
theorem d_M_call_166 : decode b_M_call 166 = .ok (.ior, 1) := by decide +kernel
theorem d_M_call_167 : decode b_M_call 167 = .ok (.iastore, 1) := by decide +kernel
theorem d_M_call_168 : decode b_M_call 168 = .ok (.aload_n 0, 1) := by decide +kernel
theorem d_M_call_169 : decode b_M_call 169 = .ok (.getfield 52, 3) := by decide +kernel
theorem d_M_call_172 : decode b_M_call 172 = .ok (.iload 8, 2) := by decide +kernel
theorem d_M_call_174 : decode b_M_call 174 = .ok (.iload 9, 2) := by decide +kernel
theorem d_M_call_176 : decode b_M_call 176 = .ok (.iconst 2, 1) := by decide +kernel
theorem d_M_call_177 : decode b_M_call 177 = .ok (.invokestatic 166, 3) := by decide +kernel
theorem d_M_call_180 : decode b_M_call 180 = .ok (.dup2, 1) := by decide +kernel
theorem d_M_call_181 : decode b_M_call 181 = .ok (.iaload, 1) := by decide +kernel
theorem d_M_call_182 : decode b_M_call 182 = .ok (.iload 6, 2) := by decide +kernel
theorem d_M_call_184 : decode b_M_call 184 = .ok (.ior, 1) := by decide +kernel
theorem d_M_call_185 : decode b_M_call 185 = .ok (.iastore, 1) := by decide +kernel
theorem d_M_call_186 : decode b_M_call 186 = .ok (.aload_n 0, 1) := by decide +kernel
theorem d_M_call_187 : decode b_M_call 187 = .ok (.getfield 52, 3) := by decide +kernel
theorem d_M_call_190 : decode b_M_call 190 = .ok (.iload 4, 2) := by decide +kernel
theorem d_M_call_192 : decode b_M_call 192 = .ok (.dup2, 1) := by decide +kernel
theorem d_M_call_193 : decode b_M_call 193 = .ok (.iaload, 1) := by decide +kernel
theorem d_M_call_194 : decode b_M_call 194 = .ok (.aload_n 0, 1) := by decide +kernel
theorem d_M_call_195 : decode b_M_call 195 = .ok (.getfield 49, 3) := by decide +kernel
theorem d_M_call_198 : decode b_M_call 198 = .ok (.iload 8, 2) := by decide +kernel
theorem d_M_call_200 : decode b_M_call 200 = .ok (.iload 9, 2) := by decide +kernel
theorem d_M_call_202 : decode b_M_call 202 = .ok (.iconst 5, 1) := by decide +kernel
theorem d_M_call_203 : decode b_M_call 203 = .ok (.invokestatic 166, 3) := by decide +kernel
theorem d_M_call_206 : decode b_M_call 206 = .ok (.iaload, 1) := by decide +kernel
theorem d_M_call_207 : decode b_M_call 207 = .ok (.ior, 1) := by decide +kernel
theorem d_M_call_208 : decode b_M_call 208 = .ok (.iastore, 1) := by decide +kernel
theorem d_M_call_209 : decode b_M_call 209 = .ok (.iinc 7 1, 3) := by decide +kernel
theorem d_M_call_212 : decode b_M_call 212 = .ok (.goto (-163), 3) := by decide +kernel
theorem d_M_call_215 : decode b_M_call 215 = .ok (.return_, 1) := by decide +kernel
theorem d_M_found_0 : decode b_M_found 0 = .ok (.iload_n 1, 1) := by decide +kernel
theorem d_M_found_1 : decode b_M_found 1 = .ok (.istore_n 3, 1) := by decide +kernel
theorem d_M_found_2 : decode b_M_found 2 = .ok (.iload_n 3, 1) := by decide +kernel
theorem d_M_found_3 : decode b_M_found 3 = .ok (.ifCond .lt 29, 3) := by decide +kernel
theorem d_M_found_6 : decode b_M_found 6 = .ok (.aload_n 0, 1) := by decide +kernel
theorem d_M_found_7 : decode b_M_found 7 = .ok (.iload_n 3, 1) := by decide +kernel
theorem d_M_found_8 : decode b_M_found 8 = .ok (.iload_n 2, 1) := by decide +kernel
theorem d_M_found_9 : decode b_M_found 9 = .ok (.invokevirtual 123, 3) := by decide +kernel
theorem d_M_found_12 : decode b_M_found 12 = .ok (.istore 4, 2) := by decide +kernel
theorem d_M_found_14 : decode b_M_found 14 = .ok (.iload 4, 2) := by decide +kernel
theorem d_M_found_16 : decode b_M_found 16 = .ok (.ifCond .lt 6, 3) := by decide +kernel
theorem d_M_found_19 : decode b_M_found 19 = .ok (.iload 4, 2) := by decide +kernel
theorem d_M_found_21 : decode b_M_found 21 = .ok (.ireturn, 1) := by decide +kernel
theorem d_M_found_22 : decode b_M_found 22 = .ok (.aload_n 0, 1) := by decide +kernel
theorem d_M_found_23 : decode b_M_found 23 = .ok (.getfield 7, 3) := by decide +kernel
theorem d_M_found_26 : decode b_M_found 26 = .ok (.iload_n 3, 1) := by decide +kernel
theorem d_M_found_27 : decode b_M_found 27 = .ok (.iaload, 1) := by decide +kernel
theorem d_M_found_28 : decode b_M_found 28 = .ok (.istore_n 3, 1) := by decide +kernel
theorem d_M_found_29 : decode b_M_found 29 = .ok (.goto (-27), 3) := by decide +kernel
theorem d_M_found_32 : decode b_M_found 32 = .ok (.iconst (-1), 1) := by decide +kernel
theorem d_M_found_33 : decode b_M_found 33 = .ok (.ireturn, 1) := by decide +kernel
theorem d_M_bringEach_0 : decode b_M_bringEach 0 = .ok (.iconst 0, 1) := by decide +kernel
theorem d_M_bringEach_1 : decode b_M_bringEach 1 = .ok (.istore 5, 2) := by decide +kernel
theorem d_M_bringEach_3 : decode b_M_bringEach 3 = .ok (.iload 5, 2) := by decide +kernel
theorem d_M_bringEach_5 : decode b_M_bringEach 5 = .ok (.aload_n 0, 1) := by decide +kernel
theorem d_M_bringEach_6 : decode b_M_bringEach 6 = .ok (.getfield 160, 3) := by decide +kernel
theorem d_M_bringEach_9 : decode b_M_bringEach 9 = .ok (.if_icmp .ge 290, 3) := by decide +kernel
theorem d_M_bringEach_12 : decode b_M_bringEach 12 = .ok (.iload_n 2, 1) := by decide +kernel
theorem d_M_bringEach_13 : decode b_M_bringEach 13 = .ok (.iload 5, 2) := by decide +kernel
theorem d_M_bringEach_15 : decode b_M_bringEach 15 = .ok (.ishr, 1) := by decide +kernel
theorem d_M_bringEach_16 : decode b_M_bringEach 16 = .ok (.iconst 1, 1) := by decide +kernel
theorem d_M_bringEach_17 : decode b_M_bringEach 17 = .ok (.iand, 1) := by decide +kernel
theorem d_M_bringEach_18 : decode b_M_bringEach 18 = .ok (.iconst 1, 1) := by decide +kernel
theorem d_M_bringEach_19 : decode b_M_bringEach 19 = .ok (.if_icmp .ne 7, 3) := by decide +kernel
theorem d_M_bringEach_22 : decode b_M_bringEach 22 = .ok (.iconst 1, 1) := by decide +kernel
theorem d_M_bringEach_23 : decode b_M_bringEach 23 = .ok (.goto 4, 3) := by decide +kernel
theorem d_M_bringEach_26 : decode b_M_bringEach 26 = .ok (.iconst 0, 1) := by decide +kernel
theorem d_M_bringEach_27 : decode b_M_bringEach 27 = .ok (.istore 6, 2) := by decide +kernel
theorem d_M_bringEach_29 : decode b_M_bringEach 29 = .ok (.iload_n 3, 1) := by decide +kernel
theorem d_M_bringEach_30 : decode b_M_bringEach 30 = .ok (.iload 5, 2) := by decide +kernel
theorem d_M_bringEach_32 : decode b_M_bringEach 32 = .ok (.ishr, 1) := by decide +kernel
theorem d_M_bringEach_33 : decode b_M_bringEach 33 = .ok (.iconst 1, 1) := by decide +kernel
theorem d_M_bringEach_34 : decode b_M_bringEach 34 = .ok (.iand, 1) := by decide +kernel
theorem d_M_bringEach_35 : decode b_M_bringEach 35 = .ok (.iconst 1, 1) := by decide +kernel
theorem d_M_bringEach_36 : decode b_M_bringEach 36 = .ok (.if_icmp .ne 7, 3) := by decide +kernel
theorem d_M_bringEach_39 : decode b_M_bringEach 39 = .ok (.iconst 1, 1) := by decide +kernel
theorem d_M_bringEach_40 : decode b_M_bringEach 40 = .ok (.goto 4, 3) := by decide +kernel
theorem d_M_bringEach_43 : decode b_M_bringEach 43 = .ok (.iconst 0, 1) := by decide +kernel
theorem d_M_bringEach_44 : decode b_M_bringEach 44 = .ok (.istore 7, 2) := by decide +kernel
theorem d_M_bringEach_46 : decode b_M_bringEach 46 = .ok (.aload_n 0, 1) := by decide +kernel
theorem d_M_bringEach_47 : decode b_M_bringEach 47 = .ok (.getfield 25, 3) := by decide +kernel
theorem d_M_bringEach_50 : decode b_M_bringEach 50 = .ok (.iload_n 1, 1) := by decide +kernel
theorem d_M_bringEach_51 : decode b_M_bringEach 51 = .ok (.iaload, 1) := by decide +kernel
theorem d_M_bringEach_52 : decode b_M_bringEach 52 = .ok (.tableswitch 221 2 8 #[44, 98, 146, 221, 221, 221, 192], 44) := by decide +kernel
theorem d_M_bringEach_96 : decode b_M_bringEach 96 = .ok (.aload_n 0, 1) := by decide +kernel
theorem d_M_bringEach_97 : decode b_M_bringEach 97 = .ok (.getfield 52, 3) := by decide +kernel
theorem d_M_bringEach_100 : decode b_M_bringEach 100 = .ok (.iload 4, 2) := by decide +kernel
theorem d_M_bringEach_102 : decode b_M_bringEach 102 = .ok (.dup2, 1) := by decide +kernel
theorem d_M_bringEach_103 : decode b_M_bringEach 103 = .ok (.iaload, 1) := by decide +kernel
theorem d_M_bringEach_104 : decode b_M_bringEach 104 = .ok (.iload 7, 2) := by decide +kernel
theorem d_M_bringEach_106 : decode b_M_bringEach 106 = .ok (.ifCond .eq 38, 3) := by decide +kernel
theorem d_M_bringEach_109 : decode b_M_bringEach 109 = .ok (.aload_n 0, 1) := by decide +kernel
theorem d_M_bringEach_110 : decode b_M_bringEach 110 = .ok (.iload 5, 2) := by decide +kernel
theorem d_M_bringEach_112 : decode b_M_bringEach 112 = .ok (.aload_n 0, 1) := by decide +kernel
theorem d_M_bringEach_113 : decode b_M_bringEach 113 = .ok (.getfield 34, 3) := by decide +kernel
theorem d_M_bringEach_116 : decode b_M_bringEach 116 = .ok (.iload_n 1, 1) := by decide +kernel
theorem d_M_bringEach_117 : decode b_M_bringEach 117 = .ok (.iaload, 1) := by decide +kernel
theorem d_M_bringEach_118 : decode b_M_bringEach 118 = .ok (.invokevirtual 177, 3) := by decide +kernel
theorem d_M_bringEach_121 : decode b_M_bringEach 121 = .ok (.ifCond .eq 23, 3) := by decide +kernel
theorem d_M_bringEach_124 : decode b_M_bringEach 124 = .ok (.aload_n 0, 1) := by decide +kernel
theorem d_M_bringEach_125 : decode b_M_bringEach 125 = .ok (.getfield 55, 3) := by decide +kernel
theorem d_M_bringEach_128 : decode b_M_bringEach 128 = .ok (.bipush 8, 2) := by decide +kernel
theorem d_M_bringEach_130 : decode b_M_bringEach 130 = .ok (.iload 5, 2) := by decide +kernel
theorem d_M_bringEach_132 : decode b_M_bringEach 132 = .ok (.imul, 1) := by decide +kernel
theorem d_M_bringEach_133 : decode b_M_bringEach 133 = .ok (.aload_n 0, 1) := by decide +kernel
theorem d_M_bringEach_134 : decode b_M_bringEach 134 = .ok (.getfield 34, 3) := by decide +kernel
theorem d_M_bringEach_137 : decode b_M_bringEach 137 = .ok (.iload_n 1, 1) := by decide +kernel
theorem d_M_bringEach_138 : decode b_M_bringEach 138 = .ok (.iaload, 1) := by decide +kernel
theorem d_M_bringEach_139 : decode b_M_bringEach 139 = .ok (.iadd, 1) := by decide +kernel
theorem d_M_bringEach_140 : decode b_M_bringEach 140 = .ok (.iaload, 1) := by decide +kernel
theorem d_M_bringEach_141 : decode b_M_bringEach 141 = .ok (.goto 4, 3) := by decide +kernel
theorem d_M_bringEach_144 : decode b_M_bringEach 144 = .ok (.iconst 0, 1) := by decide +kernel
theorem d_M_bringEach_145 : decode b_M_bringEach 145 = .ok (.ior, 1) := by decide +kernel
theorem d_M_bringEach_146 : decode b_M_bringEach 146 = .ok (.iastore, 1) := by decide +kernel
theorem d_M_bringEach_147 : decode b_M_bringEach 147 = .ok (.goto 146, 3) := by decide +kernel
theorem d_M_bringEach_150 : decode b_M_bringEach 150 = .ok (.aload_n 0, 1) := by decide +kernel
theorem d_M_bringEach_151 : decode b_M_bringEach 151 = .ok (.getfield 58, 3) := by decide +kernel
theorem d_M_bringEach_154 : decode b_M_bringEach 154 = .ok (.bipush 8, 2) := by decide +kernel
theorem d_M_bringEach_156 : decode b_M_bringEach 156 = .ok (.iload 5, 2) := by decide +kernel
theorem d_M_bringEach_158 : decode b_M_bringEach 158 = .ok (.imul, 1) := by decide +kernel
theorem d_M_bringEach_159 : decode b_M_bringEach 159 = .ok (.aload_n 0, 1) := by decide +kernel
theorem d_M_bringEach_160 : decode b_M_bringEach 160 = .ok (.getfield 34, 3) := by decide +kernel
theorem d_M_bringEach_163 : decode b_M_bringEach 163 = .ok (.iload_n 1, 1) := by decide +kernel
theorem d_M_bringEach_164 : decode b_M_bringEach 164 = .ok (.iaload, 1) := by decide +kernel
theorem d_M_bringEach_165 : decode b_M_bringEach 165 = .ok (.iadd, 1) := by decide +kernel
theorem d_M_bringEach_166 : decode b_M_bringEach 166 = .ok (.dup2, 1) := by decide +kernel
theorem d_M_bringEach_167 : decode b_M_bringEach 167 = .ok (.iaload, 1) := by decide +kernel
theorem d_M_bringEach_168 : decode b_M_bringEach 168 = .ok (.iload 6, 2) := by decide +kernel
theorem d_M_bringEach_170 : decode b_M_bringEach 170 = .ok (.ifCond .eq 22, 3) := by decide +kernel
theorem d_M_bringEach_173 : decode b_M_bringEach 173 = .ok (.aload_n 0, 1) := by decide +kernel
theorem d_M_bringEach_174 : decode b_M_bringEach 174 = .ok (.iload 5, 2) := by decide +kernel
theorem d_M_bringEach_176 : decode b_M_bringEach 176 = .ok (.aload_n 0, 1) := by decide +kernel
theorem d_M_bringEach_177 : decode b_M_bringEach 177 = .ok (.getfield 34, 3) := by decide +kernel
theorem d_M_bringEach_180 : decode b_M_bringEach 180 = .ok (.iload_n 1, 1) := by decide +kernel
theorem d_M_bringEach_181 : decode b_M_bringEach 181 = .ok (.iaload, 1) := by decide +kernel
theorem d_M_bringEach_182 : decode b_M_bringEach 182 = .ok (.invokevirtual 177, 3) := by decide +kernel
theorem d_M_bringEach_185 : decode b_M_bringEach 185 = .ok (.ifCond .eq 7, 3) := by decide +kernel
theorem d_M_bringEach_188 : decode b_M_bringEach 188 = .ok (.iload_n 3, 1) := by decide +kernel
theorem d_M_bringEach_189 : decode b_M_bringEach 189 = .ok (.goto 4, 3) := by decide +kernel
theorem d_M_bringEach_192 : decode b_M_bringEach 192 = .ok (.iconst 0, 1) := by decide +kernel
theorem d_M_bringEach_193 : decode b_M_bringEach 193 = .ok (.ior, 1) := by decide +kernel
theorem d_M_bringEach_194 : decode b_M_bringEach 194 = .ok (.iastore, 1) := by decide +kernel
theorem d_M_bringEach_195 : decode b_M_bringEach 195 = .ok (.goto 98, 3) := by decide +kernel
theorem d_M_bringEach_198 : decode b_M_bringEach 198 = .ok (.aload_n 0, 1) := by decide +kernel
theorem d_M_bringEach_199 : decode b_M_bringEach 199 = .ok (.getfield 52, 3) := by decide +kernel
theorem d_M_bringEach_202 : decode b_M_bringEach 202 = .ok (.iload 4, 2) := by decide +kernel
theorem d_M_bringEach_204 : decode b_M_bringEach 204 = .ok (.dup2, 1) := by decide +kernel
theorem d_M_bringEach_205 : decode b_M_bringEach 205 = .ok (.iaload, 1) := by decide +kernel
theorem d_M_bringEach_206 : decode b_M_bringEach 206 = .ok (.iload 7, 2) := by decide +kernel
theorem d_M_bringEach_208 : decode b_M_bringEach 208 = .ok (.ifCond .eq 30, 3) := by decide +kernel
theorem d_M_bringEach_211 : decode b_M_bringEach 211 = .ok (.aload_n 0, 1) := by decide +kernel
theorem d_M_bringEach_212 : decode b_M_bringEach 212 = .ok (.aload_n 0, 1) := by decide +kernel
theorem d_M_bringEach_213 : decode b_M_bringEach 213 = .ok (.getfield 46, 3) := by decide +kernel
theorem d_M_bringEach_216 : decode b_M_bringEach 216 = .ok (.iload 5, 2) := by decide +kernel
theorem d_M_bringEach_218 : decode b_M_bringEach 218 = .ok (.iaload, 1) := by decide +kernel
theorem d_M_bringEach_219 : decode b_M_bringEach 219 = .ok (.aload_n 0, 1) := by decide +kernel
theorem d_M_bringEach_220 : decode b_M_bringEach 220 = .ok (.getfield 34, 3) := by decide +kernel
theorem d_M_bringEach_223 : decode b_M_bringEach 223 = .ok (.iload_n 1, 1) := by decide +kernel
theorem d_M_bringEach_224 : decode b_M_bringEach 224 = .ok (.iaload, 1) := by decide +kernel
theorem d_M_bringEach_225 : decode b_M_bringEach 225 = .ok (.invokevirtual 119, 3) := by decide +kernel
theorem d_M_bringEach_228 : decode b_M_bringEach 228 = .ok (.ifCond .eq 10, 3) := by decide +kernel
theorem d_M_bringEach_231 : decode b_M_bringEach 231 = .ok (.iconst 1, 1) := by decide +kernel
theorem d_M_bringEach_232 : decode b_M_bringEach 232 = .ok (.iload 5, 2) := by decide +kernel
theorem d_M_bringEach_234 : decode b_M_bringEach 234 = .ok (.ishl, 1) := by decide +kernel
theorem d_M_bringEach_235 : decode b_M_bringEach 235 = .ok (.goto 4, 3) := by decide +kernel
theorem d_M_bringEach_238 : decode b_M_bringEach 238 = .ok (.iconst 0, 1) := by decide +kernel
theorem d_M_bringEach_239 : decode b_M_bringEach 239 = .ok (.ior, 1) := by decide +kernel
theorem d_M_bringEach_240 : decode b_M_bringEach 240 = .ok (.iastore, 1) := by decide +kernel
theorem d_M_bringEach_241 : decode b_M_bringEach 241 = .ok (.goto 52, 3) := by decide +kernel
theorem d_M_bringEach_244 : decode b_M_bringEach 244 = .ok (.aload_n 0, 1) := by decide +kernel
theorem d_M_bringEach_245 : decode b_M_bringEach 245 = .ok (.getfield 52, 3) := by decide +kernel
theorem d_M_bringEach_248 : decode b_M_bringEach 248 = .ok (.iload 4, 2) := by decide +kernel
theorem d_M_bringEach_250 : decode b_M_bringEach 250 = .ok (.dup2, 1) := by decide +kernel
theorem d_M_bringEach_251 : decode b_M_bringEach 251 = .ok (.iaload, 1) := by decide +kernel
theorem d_M_bringEach_252 : decode b_M_bringEach 252 = .ok (.iload 7, 2) := by decide +kernel
theorem d_M_bringEach_254 : decode b_M_bringEach 254 = .ok (.ifCond .eq 13, 3) := by decide +kernel
theorem d_M_bringEach_257 : decode b_M_bringEach 257 = .ok (.aload_n 0, 1) := by decide +kernel
theorem d_M_bringEach_258 : decode b_M_bringEach 258 = .ok (.getfield 61, 3) := by decide +kernel
theorem d_M_bringEach_261 : decode b_M_bringEach 261 = .ok (.iload 5, 2) := by decide +kernel
theorem d_M_bringEach_263 : decode b_M_bringEach 263 = .ok (.iaload, 1) := by decide +kernel
theorem d_M_bringEach_264 : decode b_M_bringEach 264 = .ok (.goto 4, 3) := by decide +kernel
theorem d_M_bringEach_267 : decode b_M_bringEach 267 = .ok (.iconst 0, 1) := by decide +kernel
theorem d_M_bringEach_268 : decode b_M_bringEach 268 = .ok (.ior, 1) := by decide +kernel
theorem d_M_bringEach_269 : decode b_M_bringEach 269 = .ok (.iastore, 1) := by decide +kernel
theorem d_M_bringEach_270 : decode b_M_bringEach 270 = .ok (.goto 23, 3) := by decide +kernel
theorem d_M_bringEach_273 : decode b_M_bringEach 273 = .ok (.aload_n 0, 1) := by decide +kernel
theorem d_M_bringEach_274 : decode b_M_bringEach 274 = .ok (.getfield 64, 3) := by decide +kernel
theorem d_M_bringEach_277 : decode b_M_bringEach 277 = .ok (.iload 5, 2) := by decide +kernel
theorem d_M_bringEach_279 : decode b_M_bringEach 279 = .ok (.dup2, 1) := by decide +kernel
theorem d_M_bringEach_280 : decode b_M_bringEach 280 = .ok (.iaload, 1) := by decide +kernel
theorem d_M_bringEach_281 : decode b_M_bringEach 281 = .ok (.iload 6, 2) := by decide +kernel
theorem d_M_bringEach_283 : decode b_M_bringEach 283 = .ok (.ifCond .eq 7, 3) := by decide +kernel
theorem d_M_bringEach_286 : decode b_M_bringEach 286 = .ok (.iload_n 3, 1) := by decide +kernel
theorem d_M_bringEach_287 : decode b_M_bringEach 287 = .ok (.goto 4, 3) := by decide +kernel
theorem d_M_bringEach_290 : decode b_M_bringEach 290 = .ok (.iconst 0, 1) := by decide +kernel
theorem d_M_bringEach_291 : decode b_M_bringEach 291 = .ok (.ior, 1) := by decide +kernel
theorem d_M_bringEach_292 : decode b_M_bringEach 292 = .ok (.iastore, 1) := by decide +kernel
theorem d_M_bringEach_293 : decode b_M_bringEach 293 = .ok (.iinc 5 1, 3) := by decide +kernel
theorem d_M_bringEach_296 : decode b_M_bringEach 296 = .ok (.goto (-293), 3) := by decide +kernel
theorem d_M_bringEach_299 : decode b_M_bringEach 299 = .ok (.return_, 1) := by decide +kernel
theorem d_M_hasField_0 : decode b_M_hasField 0 = .ok (.aload_n 0, 1) := by decide +kernel
theorem d_M_hasField_1 : decode b_M_hasField 1 = .ok (.aload_n 0, 1) := by decide +kernel
theorem d_M_hasField_2 : decode b_M_hasField 2 = .ok (.getfield 46, 3) := by decide +kernel
theorem d_M_hasField_5 : decode b_M_hasField 5 = .ok (.iload_n 1, 1) := by decide +kernel
theorem d_M_hasField_6 : decode b_M_hasField 6 = .ok (.iaload, 1) := by decide +kernel
theorem d_M_hasField_7 : decode b_M_hasField 7 = .ok (.aload_n 0, 1) := by decide +kernel
theorem d_M_hasField_8 : decode b_M_hasField 8 = .ok (.getfield 13, 3) := by decide +kernel
theorem d_M_hasField_11 : decode b_M_hasField 11 = .ok (.iload_n 2, 1) := by decide +kernel
theorem d_M_hasField_12 : decode b_M_hasField 12 = .ok (.iaload, 1) := by decide +kernel
theorem d_M_hasField_13 : decode b_M_hasField 13 = .ok (.invokevirtual 119, 3) := by decide +kernel
theorem d_M_hasField_16 : decode b_M_hasField 16 = .ok (.ireturn, 1) := by decide +kernel
