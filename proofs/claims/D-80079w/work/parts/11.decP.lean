theorem d_P_init_0 : decode b_P_init 0 = .ok (.aload_n 0, 1) := by decide +kernel
theorem d_P_init_1 : decode b_P_init 1 = .ok (.invokespecial 1, 3) := by decide +kernel
theorem d_P_init_4 : decode b_P_init 4 = .ok (.aload_n 0, 1) := by decide +kernel
theorem d_P_init_5 : decode b_P_init 5 = .ok (.bipush 8, 2) := by decide +kernel
theorem d_P_init_7 : decode b_P_init 7 = .ok (.newarray .int, 2) := by decide +kernel
theorem d_P_init_9 : decode b_P_init 9 = .ok (.putfield 7, 3) := by decide +kernel
theorem d_P_init_12 : decode b_P_init 12 = .ok (.aload_n 0, 1) := by decide +kernel
theorem d_P_init_13 : decode b_P_init 13 = .ok (.bipush 8, 2) := by decide +kernel
theorem d_P_init_15 : decode b_P_init 15 = .ok (.newarray .int, 2) := by decide +kernel
theorem d_P_init_17 : decode b_P_init 17 = .ok (.putfield 13, 3) := by decide +kernel
theorem d_P_init_20 : decode b_P_init 20 = .ok (.aload_n 0, 1) := by decide +kernel
theorem d_P_init_21 : decode b_P_init 21 = .ok (.bipush 10, 2) := by decide +kernel
theorem d_P_init_23 : decode b_P_init 23 = .ok (.newarray .int, 2) := by decide +kernel
theorem d_P_init_25 : decode b_P_init 25 = .ok (.putfield 16, 3) := by decide +kernel
theorem d_P_init_28 : decode b_P_init 28 = .ok (.aload_n 0, 1) := by decide +kernel
theorem d_P_init_29 : decode b_P_init 29 = .ok (.bipush 10, 2) := by decide +kernel
theorem d_P_init_31 : decode b_P_init 31 = .ok (.newarray .int, 2) := by decide +kernel
theorem d_P_init_33 : decode b_P_init 33 = .ok (.putfield 19, 3) := by decide +kernel
theorem d_P_init_36 : decode b_P_init 36 = .ok (.aload_n 0, 1) := by decide +kernel
theorem d_P_init_37 : decode b_P_init 37 = .ok (.new 22, 3) := by decide +kernel
theorem d_P_init_40 : decode b_P_init 40 = .ok (.dup, 1) := by decide +kernel
theorem d_P_init_41 : decode b_P_init 41 = .ok (.invokespecial 24, 3) := by decide +kernel
theorem d_P_init_44 : decode b_P_init 44 = .ok (.putfield 25, 3) := by decide +kernel
theorem d_P_init_47 : decode b_P_init 47 = .ok (.aload_n 0, 1) := by decide +kernel
theorem d_P_init_48 : decode b_P_init 48 = .ok (.new 22, 3) := by decide +kernel
theorem d_P_init_51 : decode b_P_init 51 = .ok (.dup, 1) := by decide +kernel
theorem d_P_init_52 : decode b_P_init 52 = .ok (.invokespecial 24, 3) := by decide +kernel
theorem d_P_init_55 : decode b_P_init 55 = .ok (.putfield 29, 3) := by decide +kernel
theorem d_P_init_58 : decode b_P_init 58 = .ok (.aload_n 0, 1) := by decide +kernel
theorem d_P_init_59 : decode b_P_init 59 = .ok (.bipush 20, 2) := by decide +kernel
theorem d_P_init_61 : decode b_P_init 61 = .ok (.newarray .int, 2) := by decide +kernel
theorem d_P_init_63 : decode b_P_init 63 = .ok (.putfield 32, 3) := by decide +kernel
theorem d_P_init_66 : decode b_P_init 66 = .ok (.aload_n 0, 1) := by decide +kernel
theorem d_P_init_67 : decode b_P_init 67 = .ok (.new 35, 3) := by decide +kernel
theorem d_P_init_70 : decode b_P_init 70 = .ok (.dup, 1) := by decide +kernel
theorem d_P_init_71 : decode b_P_init 71 = .ok (.aload_n 0, 1) := by decide +kernel
theorem d_P_init_72 : decode b_P_init 72 = .ok (.invokespecial 37, 3) := by decide +kernel
theorem d_P_init_75 : decode b_P_init 75 = .ok (.putfield 40, 3) := by decide +kernel
theorem d_P_init_78 : decode b_P_init 78 = .ok (.return_, 1) := by decide +kernel
theorem d_P_cls_0 : decode b_P_cls 0 = .ok (.iload_n 1, 1) := by decide +kernel
theorem d_P_cls_1 : decode b_P_cls 1 = .ok (.iconst (-1), 1) := by decide +kernel
theorem d_P_cls_2 : decode b_P_cls 2 = .ok (.if_icmp .eq 13, 3) := by decide +kernel
theorem d_P_cls_5 : decode b_P_cls 5 = .ok (.aload_n 0, 1) := by decide +kernel
theorem d_P_cls_6 : decode b_P_cls 6 = .ok (.iload_n 1, 1) := by decide +kernel
theorem d_P_cls_7 : decode b_P_cls 7 = .ok (.invokevirtual 72, 3) := by decide +kernel
theorem d_P_cls_10 : decode b_P_cls 10 = .ok (.ifCond .ne 5, 3) := by decide +kernel
theorem d_P_cls_13 : decode b_P_cls 13 = .ok (.iconst (-1), 1) := by decide +kernel
theorem d_P_cls_14 : decode b_P_cls 14 = .ok (.ireturn, 1) := by decide +kernel
theorem d_P_cls_15 : decode b_P_cls 15 = .ok (.aload_n 0, 1) := by decide +kernel
theorem d_P_cls_16 : decode b_P_cls 16 = .ok (.getfield 66, 3) := by decide +kernel
theorem d_P_cls_19 : decode b_P_cls 19 = .ok (.bipush 8, 2) := by decide +kernel
theorem d_P_cls_21 : decode b_P_cls 21 = .ok (.if_icmp .ne 6, 3) := by decide +kernel
theorem d_P_cls_24 : decode b_P_cls 24 = .ok (.bipush (-4), 2) := by decide +kernel
theorem d_P_cls_26 : decode b_P_cls 26 = .ok (.ireturn, 1) := by decide +kernel
theorem d_P_cls_27 : decode b_P_cls 27 = .ok (.aload_n 0, 1) := by decide +kernel
theorem d_P_cls_28 : decode b_P_cls 28 = .ok (.getfield 7, 3) := by decide +kernel
theorem d_P_cls_31 : decode b_P_cls 31 = .ok (.aload_n 0, 1) := by decide +kernel
theorem d_P_cls_32 : decode b_P_cls 32 = .ok (.getfield 66, 3) := by decide +kernel
theorem d_P_cls_35 : decode b_P_cls 35 = .ok (.iload_n 1, 1) := by decide +kernel
theorem d_P_cls_36 : decode b_P_cls 36 = .ok (.iastore, 1) := by decide +kernel
theorem d_P_cls_37 : decode b_P_cls 37 = .ok (.aload_n 0, 1) := by decide +kernel
theorem d_P_cls_38 : decode b_P_cls 38 = .ok (.invokevirtual 76, 3) := by decide +kernel
theorem d_P_cls_41 : decode b_P_cls 41 = .ok (.aload_n 0, 1) := by decide +kernel
theorem d_P_cls_42 : decode b_P_cls 42 = .ok (.dup, 1) := by decide +kernel
theorem d_P_cls_43 : decode b_P_cls 43 = .ok (.getfield 66, 3) := by decide +kernel
theorem d_P_cls_46 : decode b_P_cls 46 = .ok (.dup_x1, 1) := by decide +kernel
theorem d_P_cls_47 : decode b_P_cls 47 = .ok (.iconst 1, 1) := by decide +kernel
theorem d_P_cls_48 : decode b_P_cls 48 = .ok (.iadd, 1) := by decide +kernel
theorem d_P_cls_49 : decode b_P_cls 49 = .ok (.putfield 66, 3) := by decide +kernel
theorem d_P_cls_52 : decode b_P_cls 52 = .ok (.ireturn, 1) := by decide +kernel
theorem d_P_isClass_0 : decode b_P_isClass 0 = .ok (.iload_n 1, 1) := by decide +kernel
theorem d_P_isClass_1 : decode b_P_isClass 1 = .ok (.ifCond .lt 15, 3) := by decide +kernel
theorem d_P_isClass_4 : decode b_P_isClass 4 = .ok (.iload_n 1, 1) := by decide +kernel
theorem d_P_isClass_5 : decode b_P_isClass 5 = .ok (.aload_n 0, 1) := by decide +kernel
theorem d_P_isClass_6 : decode b_P_isClass 6 = .ok (.getfield 66, 3) := by decide +kernel
theorem d_P_isClass_9 : decode b_P_isClass 9 = .ok (.if_icmp .ge 7, 3) := by decide +kernel
theorem d_P_isClass_12 : decode b_P_isClass 12 = .ok (.iconst 1, 1) := by decide +kernel
theorem d_P_isClass_13 : decode b_P_isClass 13 = .ok (.goto 4, 3) := by decide +kernel
theorem d_P_isClass_16 : decode b_P_isClass 16 = .ok (.iconst 0, 1) := by decide +kernel
theorem d_P_isClass_17 : decode b_P_isClass 17 = .ok (.ireturn, 1) := by decide +kernel
theorem d_P_change_0 : decode b_P_change 0 = .ok (.aload_n 0, 1) := by decide +kernel
theorem d_P_change_1 : decode b_P_change 1 = .ok (.iconst 0, 1) := by decide +kernel
theorem d_P_change_2 : decode b_P_change 2 = .ok (.putfield 55, 3) := by decide +kernel
theorem d_P_change_5 : decode b_P_change 5 = .ok (.aload_n 0, 1) := by decide +kernel
theorem d_P_change_6 : decode b_P_change 6 = .ok (.aconst_null, 1) := by decide +kernel
theorem d_P_change_7 : decode b_P_change 7 = .ok (.putfield 59, 3) := by decide +kernel
theorem d_P_change_10 : decode b_P_change 10 = .ok (.return_, 1) := by decide +kernel
theorem d_P_field_0 : decode b_P_field 0 = .ok (.aload_n 0, 1) := by decide +kernel
theorem d_P_field_1 : decode b_P_field 1 = .ok (.iload_n 1, 1) := by decide +kernel
theorem d_P_field_2 : decode b_P_field 2 = .ok (.invokevirtual 72, 3) := by decide +kernel
theorem d_P_field_5 : decode b_P_field 5 = .ok (.ifCond .ne 5, 3) := by decide +kernel
theorem d_P_field_8 : decode b_P_field 8 = .ok (.iconst (-1), 1) := by decide +kernel
theorem d_P_field_9 : decode b_P_field 9 = .ok (.ireturn, 1) := by decide +kernel
theorem d_P_field_10 : decode b_P_field 10 = .ok (.aload_n 0, 1) := by decide +kernel
theorem d_P_field_11 : decode b_P_field 11 = .ok (.getfield 69, 3) := by decide +kernel
theorem d_P_field_14 : decode b_P_field 14 = .ok (.bipush 8, 2) := by decide +kernel
theorem d_P_field_16 : decode b_P_field 16 = .ok (.if_icmp .ne 6, 3) := by decide +kernel
theorem d_P_field_19 : decode b_P_field 19 = .ok (.bipush (-4), 2) := by decide +kernel
theorem d_P_field_21 : decode b_P_field 21 = .ok (.ireturn, 1) := by decide +kernel
theorem d_P_field_22 : decode b_P_field 22 = .ok (.aload_n 0, 1) := by decide +kernel
theorem d_P_field_23 : decode b_P_field 23 = .ok (.getfield 13, 3) := by decide +kernel
theorem d_P_field_26 : decode b_P_field 26 = .ok (.aload_n 0, 1) := by decide +kernel
theorem d_P_field_27 : decode b_P_field 27 = .ok (.getfield 69, 3) := by decide +kernel
theorem d_P_field_30 : decode b_P_field 30 = .ok (.iload_n 1, 1) := by decide +kernel
theorem d_P_field_31 : decode b_P_field 31 = .ok (.iastore, 1) := by decide +kernel
theorem d_P_field_32 : decode b_P_field 32 = .ok (.aload_n 0, 1) := by decide +kernel
theorem d_P_field_33 : decode b_P_field 33 = .ok (.invokevirtual 76, 3) := by decide +kernel
theorem d_P_field_36 : decode b_P_field 36 = .ok (.aload_n 0, 1) := by decide +kernel
theorem d_P_field_37 : decode b_P_field 37 = .ok (.dup, 1) := by decide +kernel
theorem d_P_field_38 : decode b_P_field 38 = .ok (.getfield 69, 3) := by decide +kernel
theorem d_P_field_41 : decode b_P_field 41 = .ok (.dup_x1, 1) := by decide +kernel
theorem d_P_field_42 : decode b_P_field 42 = .ok (.iconst 1, 1) := by decide +kernel
theorem d_P_field_43 : decode b_P_field 43 = .ok (.iadd, 1) := by decide +kernel
theorem d_P_field_44 : decode b_P_field 44 = .ok (.putfield 69, 3) := by decide +kernel
theorem d_P_field_47 : decode b_P_field 47 = .ok (.ireturn, 1) := by decide +kernel
theorem d_P_method_0 : decode b_P_method 0 = .ok (.aload_n 0, 1) := by decide +kernel
theorem d_P_method_1 : decode b_P_method 1 = .ok (.iload_n 1, 1) := by decide +kernel
theorem d_P_method_2 : decode b_P_method 2 = .ok (.invokevirtual 72, 3) := by decide +kernel
theorem d_P_method_5 : decode b_P_method 5 = .ok (.ifCond .ne 5, 3) := by decide +kernel
theorem d_P_method_8 : decode b_P_method 8 = .ok (.iconst (-1), 1) := by decide +kernel
theorem d_P_method_9 : decode b_P_method 9 = .ok (.ireturn, 1) := by decide +kernel
theorem d_P_method_10 : decode b_P_method 10 = .ok (.iload_n 2, 1) := by decide +kernel
theorem d_P_method_11 : decode b_P_method 11 = .ok (.ifCond .lt 8, 3) := by decide +kernel
theorem d_P_method_14 : decode b_P_method 14 = .ok (.iload_n 2, 1) := by decide +kernel
theorem d_P_method_15 : decode b_P_method 15 = .ok (.iconst 4, 1) := by decide +kernel
theorem d_P_method_16 : decode b_P_method 16 = .ok (.if_icmp .lt 6, 3) := by decide +kernel
theorem d_P_method_19 : decode b_P_method 19 = .ok (.bipush (-2), 2) := by decide +kernel
theorem d_P_method_21 : decode b_P_method 21 = .ok (.ireturn, 1) := by decide +kernel
theorem d_P_method_22 : decode b_P_method 22 = .ok (.iconst 0, 1) := by decide +kernel
theorem d_P_method_23 : decode b_P_method 23 = .ok (.istore_n 3, 1) := by decide +kernel
theorem d_P_method_24 : decode b_P_method 24 = .ok (.iload_n 3, 1) := by decide +kernel
theorem d_P_method_25 : decode b_P_method 25 = .ok (.aload_n 0, 1) := by decide +kernel
theorem d_P_method_26 : decode b_P_method 26 = .ok (.getfield 44, 3) := by decide +kernel
theorem d_P_method_29 : decode b_P_method 29 = .ok (.if_icmp .ge 32, 3) := by decide +kernel
theorem d_P_method_32 : decode b_P_method 32 = .ok (.aload_n 0, 1) := by decide +kernel
theorem d_P_method_33 : decode b_P_method 33 = .ok (.getfield 16, 3) := by decide +kernel
theorem d_P_method_36 : decode b_P_method 36 = .ok (.iload_n 3, 1) := by decide +kernel
theorem d_P_method_37 : decode b_P_method 37 = .ok (.iaload, 1) := by decide +kernel
theorem d_P_method_38 : decode b_P_method 38 = .ok (.iload_n 1, 1) := by decide +kernel
theorem d_P_method_39 : decode b_P_method 39 = .ok (.if_icmp .ne 16, 3) := by decide +kernel
theorem d_P_method_42 : decode b_P_method 42 = .ok (.aload_n 0, 1) := by decide +kernel
theorem d_P_method_43 : decode b_P_method 43 = .ok (.getfield 19, 3) := by decide +kernel
theorem d_P_method_46 : decode b_P_method 46 = .ok (.iload_n 3, 1) := by decide +kernel
theorem d_P_method_47 : decode b_P_method 47 = .ok (.iaload, 1) := by decide +kernel
theorem d_P_method_48 : decode b_P_method 48 = .ok (.iload_n 2, 1) := by decide +kernel
theorem d_P_method_49 : decode b_P_method 49 = .ok (.if_icmp .ne 6, 3) := by decide +kernel
theorem d_P_method_52 : decode b_P_method 52 = .ok (.bipush (-3), 2) := by decide +kernel
theorem d_P_method_54 : decode b_P_method 54 = .ok (.ireturn, 1) := by decide +kernel
theorem d_P_method_55 : decode b_P_method 55 = .ok (.iinc 3 1, 3) := by decide +kernel
theorem d_P_method_58 : decode b_P_method 58 = .ok (.goto (-34), 3) := by decide +kernel
theorem d_P_method_61 : decode b_P_method 61 = .ok (.aload_n 0, 1) := by decide +kernel
theorem d_P_method_62 : decode b_P_method 62 = .ok (.getfield 44, 3) := by decide +kernel
theorem d_P_method_65 : decode b_P_method 65 = .ok (.bipush 10, 2) := by decide +kernel
theorem d_P_method_67 : decode b_P_method 67 = .ok (.if_icmp .ne 6, 3) := by decide +kernel
theorem d_P_method_70 : decode b_P_method 70 = .ok (.bipush (-4), 2) := by decide +kernel
theorem d_P_method_72 : decode b_P_method 72 = .ok (.ireturn, 1) := by decide +kernel
theorem d_P_method_73 : decode b_P_method 73 = .ok (.aload_n 0, 1) := by decide +kernel
theorem d_P_method_74 : decode b_P_method 74 = .ok (.getfield 16, 3) := by decide +kernel
theorem d_P_method_77 : decode b_P_method 77 = .ok (.aload_n 0, 1) := by decide +kernel
theorem d_P_method_78 : decode b_P_method 78 = .ok (.getfield 44, 3) := by decide +kernel
theorem d_P_method_81 : decode b_P_method 81 = .ok (.iload_n 1, 1) := by decide +kernel
theorem d_P_method_82 : decode b_P_method 82 = .ok (.iastore, 1) := by decide +kernel
theorem d_P_method_83 : decode b_P_method 83 = .ok (.aload_n 0, 1) := by decide +kernel
theorem d_P_method_84 : decode b_P_method 84 = .ok (.getfield 19, 3) := by decide +kernel
theorem d_P_method_87 : decode b_P_method 87 = .ok (.aload_n 0, 1) := by decide +kernel
theorem d_P_method_88 : decode b_P_method 88 = .ok (.getfield 44, 3) := by decide +kernel
theorem d_P_method_91 : decode b_P_method 91 = .ok (.iload_n 2, 1) := by decide +kernel
theorem d_P_method_92 : decode b_P_method 92 = .ok (.iastore, 1) := by decide +kernel
theorem d_P_method_93 : decode b_P_method 93 = .ok (.aload_n 0, 1) := by decide +kernel
theorem d_P_method_94 : decode b_P_method 94 = .ok (.getfield 29, 3) := by decide +kernel
theorem d_P_method_97 : decode b_P_method 97 = .ok (.new 22, 3) := by decide +kernel
theorem d_P_method_100 : decode b_P_method 100 = .ok (.dup, 1) := by decide +kernel
theorem d_P_method_101 : decode b_P_method 101 = .ok (.invokespecial 24, 3) := by decide +kernel
theorem d_P_method_104 : decode b_P_method 104 = .ok (.invokeinterface 79 2, 5) := by decide +kernel
theorem d_P_method_109 : decode b_P_method 109 = .ok (.pop, 1) := by decide +kernel
theorem d_P_method_110 : decode b_P_method 110 = .ok (.aload_n 0, 1) := by decide +kernel
theorem d_P_method_111 : decode b_P_method 111 = .ok (.invokevirtual 76, 3) := by decide +kernel
theorem d_P_method_114 : decode b_P_method 114 = .ok (.aload_n 0, 1) := by decide +kernel
theorem d_P_method_115 : decode b_P_method 115 = .ok (.dup, 1) := by decide +kernel
theorem d_P_method_116 : decode b_P_method 116 = .ok (.getfield 44, 3) := by decide +kernel
theorem d_P_method_119 : decode b_P_method 119 = .ok (.dup_x1, 1) := by decide +kernel
theorem d_P_method_120 : decode b_P_method 120 = .ok (.iconst 1, 1) := by decide +kernel
theorem d_P_method_121 : decode b_P_method 121 = .ok (.iadd, 1) := by decide +kernel
theorem d_P_method_122 : decode b_P_method 122 = .ok (.putfield 44, 3) := by decide +kernel
theorem d_P_method_125 : decode b_P_method 125 = .ok (.ireturn, 1) := by decide +kernel
theorem d_P_statement_0 : decode b_P_statement 0 = .ok (.aload_n 0, 1) := by decide +kernel
theorem d_P_statement_1 : decode b_P_statement 1 = .ok (.iload_n 1, 1) := by decide +kernel
theorem d_P_statement_2 : decode b_P_statement 2 = .ok (.invokevirtual 94, 3) := by decide +kernel
theorem d_P_statement_5 : decode b_P_statement 5 = .ok (.ifCond .ne 5, 3) := by decide +kernel
theorem d_P_statement_8 : decode b_P_statement 8 = .ok (.iconst (-1), 1) := by decide +kernel
theorem d_P_statement_9 : decode b_P_statement 9 = .ok (.ireturn, 1) := by decide +kernel
theorem d_P_statement_10 : decode b_P_statement 10 = .ok (.iload_n 2, 1) := by decide +kernel
theorem d_P_statement_11 : decode b_P_statement 11 = .ok (.ifCond .lt 9, 3) := by decide +kernel
theorem d_P_statement_14 : decode b_P_statement 14 = .ok (.iload_n 2, 1) := by decide +kernel
theorem d_P_statement_15 : decode b_P_statement 15 = .ok (.bipush 9, 2) := by decide +kernel
theorem d_P_statement_17 : decode b_P_statement 17 = .ok (.if_icmp .le 6, 3) := by decide +kernel
theorem d_P_statement_20 : decode b_P_statement 20 = .ok (.bipush (-2), 2) := by decide +kernel
theorem d_P_statement_22 : decode b_P_statement 22 = .ok (.ireturn, 1) := by decide +kernel
theorem d_P_statement_23 : decode b_P_statement 23 = .ok (.aload_n 0, 1) := by decide +kernel
theorem d_P_statement_24 : decode b_P_statement 24 = .ok (.iload_n 2, 1) := by decide +kernel
theorem d_P_statement_25 : decode b_P_statement 25 = .ok (.iload_n 3, 1) := by decide +kernel
theorem d_P_statement_26 : decode b_P_statement 26 = .ok (.iload 4, 2) := by decide +kernel
theorem d_P_statement_28 : decode b_P_statement 28 = .ok (.iload 5, 2) := by decide +kernel
theorem d_P_statement_30 : decode b_P_statement 30 = .ok (.iload 6, 2) := by decide +kernel
theorem d_P_statement_32 : decode b_P_statement 32 = .ok (.iload 7, 2) := by decide +kernel
theorem d_P_statement_34 : decode b_P_statement 34 = .ok (.invokevirtual 97, 3) := by decide +kernel
theorem d_P_statement_37 : decode b_P_statement 37 = .ok (.ifCond .ne 5, 3) := by decide +kernel
theorem d_P_statement_40 : decode b_P_statement 40 = .ok (.iconst (-1), 1) := by decide +kernel
theorem d_P_statement_41 : decode b_P_statement 41 = .ok (.ireturn, 1) := by decide +kernel
theorem d_P_statement_42 : decode b_P_statement 42 = .ok (.iload_n 2, 1) := by decide +kernel
theorem d_P_statement_43 : decode b_P_statement 43 = .ok (.bipush 7, 2) := by decide +kernel
theorem d_P_statement_45 : decode b_P_statement 45 = .ok (.if_icmp .ne 17, 3) := by decide +kernel
theorem d_P_statement_48 : decode b_P_statement 48 = .ok (.iload 5, 2) := by decide +kernel
theorem d_P_statement_50 : decode b_P_statement 50 = .ok (.ifCond .lt 9, 3) := by decide +kernel
theorem d_P_statement_53 : decode b_P_statement 53 = .ok (.iload 5, 2) := by decide +kernel
theorem d_P_statement_55 : decode b_P_statement 55 = .ok (.iconst 4, 1) := by decide +kernel
theorem d_P_statement_56 : decode b_P_statement 56 = .ok (.if_icmp .lt 6, 3) := by decide +kernel
theorem d_P_statement_59 : decode b_P_statement 59 = .ok (.bipush (-2), 2) := by decide +kernel
theorem d_P_statement_61 : decode b_P_statement 61 = .ok (.ireturn, 1) := by decide +kernel
theorem d_P_statement_62 : decode b_P_statement 62 = .ok (.aload_n 0, 1) := by decide +kernel
theorem d_P_statement_63 : decode b_P_statement 63 = .ok (.getfield 25, 3) := by decide +kernel
theorem d_P_statement_66 : decode b_P_statement 66 = .ok (.invokeinterface 101 1, 5) := by decide +kernel
theorem d_P_statement_71 : decode b_P_statement 71 = .ok (.bipush 60, 2) := by decide +kernel
theorem d_P_statement_73 : decode b_P_statement 73 = .ok (.if_icmp .eq 16, 3) := by decide +kernel
theorem d_P_statement_76 : decode b_P_statement 76 = .ok (.iload_n 2, 1) := by decide +kernel
theorem d_P_statement_77 : decode b_P_statement 77 = .ok (.ifCond .ne 15, 3) := by decide +kernel
theorem d_P_statement_80 : decode b_P_statement 80 = .ok (.aload_n 0, 1) := by decide +kernel
theorem d_P_statement_81 : decode b_P_statement 81 = .ok (.getfield 52, 3) := by decide +kernel
theorem d_P_statement_84 : decode b_P_statement 84 = .ok (.bipush 20, 2) := by decide +kernel
theorem d_P_statement_86 : decode b_P_statement 86 = .ok (.if_icmp .ne 6, 3) := by decide +kernel
theorem d_P_statement_89 : decode b_P_statement 89 = .ok (.bipush (-4), 2) := by decide +kernel
theorem d_P_statement_91 : decode b_P_statement 91 = .ok (.ireturn, 1) := by decide +kernel
theorem d_P_statement_92 : decode b_P_statement 92 = .ok (.new 105, 3) := by decide +kernel
theorem d_P_statement_95 : decode b_P_statement 95 = .ok (.dup, 1) := by decide +kernel
theorem d_P_statement_96 : decode b_P_statement 96 = .ok (.iload_n 1, 1) := by decide +kernel
theorem d_P_statement_97 : decode b_P_statement 97 = .ok (.iload_n 2, 1) := by decide +kernel
theorem d_P_statement_98 : decode b_P_statement 98 = .ok (.iload_n 3, 1) := by decide +kernel
theorem d_P_statement_99 : decode b_P_statement 99 = .ok (.iload 4, 2) := by decide +kernel
theorem d_P_statement_101 : decode b_P_statement 101 = .ok (.iload 5, 2) := by decide +kernel
theorem d_P_statement_103 : decode b_P_statement 103 = .ok (.iload 6, 2) := by decide +kernel
theorem d_P_statement_105 : decode b_P_statement 105 = .ok (.iload 7, 2) := by decide +kernel
theorem d_P_statement_107 : decode b_P_statement 107 = .ok (.invokespecial 107, 3) := by decide +kernel
theorem d_P_statement_110 : decode b_P_statement 110 = .ok (.astore 8, 2) := by decide +kernel
theorem d_P_statement_112 : decode b_P_statement 112 = .ok (.iload_n 2, 1) := by decide +kernel
theorem d_P_statement_113 : decode b_P_statement 113 = .ok (.ifCond .ne 30, 3) := by decide +kernel
theorem d_P_statement_116 : decode b_P_statement 116 = .ok (.aload_n 0, 1) := by decide +kernel
theorem d_P_statement_117 : decode b_P_statement 117 = .ok (.getfield 32, 3) := by decide +kernel
theorem d_P_statement_120 : decode b_P_statement 120 = .ok (.aload_n 0, 1) := by decide +kernel
theorem d_P_statement_121 : decode b_P_statement 121 = .ok (.getfield 52, 3) := by decide +kernel
theorem d_P_statement_124 : decode b_P_statement 124 = .ok (.iload 4, 2) := by decide +kernel
theorem d_P_statement_126 : decode b_P_statement 126 = .ok (.iastore, 1) := by decide +kernel
theorem d_P_statement_127 : decode b_P_statement 127 = .ok (.aload 8, 2) := by decide +kernel
theorem d_P_statement_129 : decode b_P_statement 129 = .ok (.aload_n 0, 1) := by decide +kernel
theorem d_P_statement_130 : decode b_P_statement 130 = .ok (.dup, 1) := by decide +kernel
theorem d_P_statement_131 : decode b_P_statement 131 = .ok (.getfield 52, 3) := by decide +kernel
theorem d_P_statement_134 : decode b_P_statement 134 = .ok (.dup_x1, 1) := by decide +kernel
theorem d_P_statement_135 : decode b_P_statement 135 = .ok (.iconst 1, 1) := by decide +kernel
theorem d_P_statement_136 : decode b_P_statement 136 = .ok (.iadd, 1) := by decide +kernel
theorem d_P_statement_137 : decode b_P_statement 137 = .ok (.putfield 52, 3) := by decide +kernel
theorem d_P_statement_140 : decode b_P_statement 140 = .ok (.putfield 110, 3) := by decide +kernel
theorem d_P_statement_143 : decode b_P_statement 143 = .ok (.aload_n 0, 1) := by decide +kernel
theorem d_P_statement_144 : decode b_P_statement 144 = .ok (.getfield 25, 3) := by decide +kernel
theorem d_P_statement_147 : decode b_P_statement 147 = .ok (.aload 8, 2) := by decide +kernel
theorem d_P_statement_149 : decode b_P_statement 149 = .ok (.invokeinterface 79 2, 5) := by decide +kernel
theorem d_P_statement_154 : decode b_P_statement 154 = .ok (.pop, 1) := by decide +kernel
theorem d_P_statement_155 : decode b_P_statement 155 = .ok (.aload_n 0, 1) := by decide +kernel
theorem d_P_statement_156 : decode b_P_statement 156 = .ok (.getfield 29, 3) := by decide +kernel
theorem d_P_statement_159 : decode b_P_statement 159 = .ok (.iload_n 1, 1) := by decide +kernel
theorem d_P_statement_160 : decode b_P_statement 160 = .ok (.invokeinterface 113 2, 5) := by decide +kernel
theorem d_P_statement_165 : decode b_P_statement 165 = .ok (.checkcast 80, 3) := by decide +kernel
theorem d_P_statement_168 : decode b_P_statement 168 = .ok (.aload 8, 2) := by decide +kernel
theorem d_P_statement_170 : decode b_P_statement 170 = .ok (.invokeinterface 79 2, 5) := by decide +kernel
theorem d_P_statement_175 : decode b_P_statement 175 = .ok (.pop, 1) := by decide +kernel
theorem d_P_statement_176 : decode b_P_statement 176 = .ok (.aload_n 0, 1) := by decide +kernel
theorem d_P_statement_177 : decode b_P_statement 177 = .ok (.invokevirtual 76, 3) := by decide +kernel
theorem d_P_statement_180 : decode b_P_statement 180 = .ok (.aload_n 0, 1) := by decide +kernel
theorem d_P_statement_181 : decode b_P_statement 181 = .ok (.getfield 25, 3) := by decide +kernel
theorem d_P_statement_184 : decode b_P_statement 184 = .ok (.invokeinterface 101 1, 5) := by decide +kernel
theorem d_P_statement_189 : decode b_P_statement 189 = .ok (.iconst 1, 1) := by decide +kernel
theorem d_P_statement_190 : decode b_P_statement 190 = .ok (.isub, 1) := by decide +kernel
theorem d_P_statement_191 : decode b_P_statement 191 = .ok (.ireturn, 1) := by decide +kernel
theorem d_P_isMethod_0 : decode b_P_isMethod 0 = .ok (.iload_n 1, 1) := by decide +kernel
theorem d_P_isMethod_1 : decode b_P_isMethod 1 = .ok (.ifCond .lt 15, 3) := by decide +kernel
theorem d_P_isMethod_4 : decode b_P_isMethod 4 = .ok (.iload_n 1, 1) := by decide +kernel
theorem d_P_isMethod_5 : decode b_P_isMethod 5 = .ok (.aload_n 0, 1) := by decide +kernel
theorem d_P_isMethod_6 : decode b_P_isMethod 6 = .ok (.getfield 44, 3) := by decide +kernel
theorem d_P_isMethod_9 : decode b_P_isMethod 9 = .ok (.if_icmp .ge 7, 3) := by decide +kernel
theorem d_P_isMethod_12 : decode b_P_isMethod 12 = .ok (.iconst 1, 1) := by decide +kernel
theorem d_P_isMethod_13 : decode b_P_isMethod 13 = .ok (.goto 4, 3) := by decide +kernel
theorem d_P_isMethod_16 : decode b_P_isMethod 16 = .ok (.iconst 0, 1) := by decide +kernel
theorem d_P_isMethod_17 : decode b_P_isMethod 17 = .ok (.ireturn, 1) := by decide +kernel
theorem d_P_areGood_0 : decode b_P_areGood 0 = .ok (.iload_n 1, 1) := by decide +kernel
theorem d_P_areGood_1 : decode b_P_areGood 1 = .ok (.tableswitch 194 0 9 #[55, 76, 96, 96, 125, 154, 174, 194, 76, 76], 55) := by decide +kernel
theorem d_P_areGood_56 : decode b_P_areGood 56 = .ok (.iload_n 2, 1) := by decide +kernel
theorem d_P_areGood_57 : decode b_P_areGood 57 = .ok (.invokestatic 85, 3) := by decide +kernel
theorem d_P_areGood_60 : decode b_P_areGood 60 = .ok (.ifCond .eq 15, 3) := by decide +kernel
theorem d_P_areGood_63 : decode b_P_areGood 63 = .ok (.aload_n 0, 1) := by decide +kernel
theorem d_P_areGood_64 : decode b_P_areGood 64 = .ok (.iload_n 3, 1) := by decide +kernel
theorem d_P_areGood_65 : decode b_P_areGood 65 = .ok (.invokevirtual 72, 3) := by decide +kernel
theorem d_P_areGood_68 : decode b_P_areGood 68 = .ok (.ifCond .eq 7, 3) := by decide +kernel
theorem d_P_areGood_71 : decode b_P_areGood 71 = .ok (.iconst 1, 1) := by decide +kernel
theorem d_P_areGood_72 : decode b_P_areGood 72 = .ok (.goto 4, 3) := by decide +kernel
theorem d_P_areGood_75 : decode b_P_areGood 75 = .ok (.iconst 0, 1) := by decide +kernel
theorem d_P_areGood_76 : decode b_P_areGood 76 = .ok (.ireturn, 1) := by decide +kernel
theorem d_P_areGood_77 : decode b_P_areGood 77 = .ok (.iload_n 2, 1) := by decide +kernel
theorem d_P_areGood_78 : decode b_P_areGood 78 = .ok (.invokestatic 85, 3) := by decide +kernel
theorem d_P_areGood_81 : decode b_P_areGood 81 = .ok (.ifCond .eq 14, 3) := by decide +kernel
theorem d_P_areGood_84 : decode b_P_areGood 84 = .ok (.iload_n 3, 1) := by decide +kernel
theorem d_P_areGood_85 : decode b_P_areGood 85 = .ok (.invokestatic 85, 3) := by decide +kernel
theorem d_P_areGood_88 : decode b_P_areGood 88 = .ok (.ifCond .eq 7, 3) := by decide +kernel
theorem d_P_areGood_91 : decode b_P_areGood 91 = .ok (.iconst 1, 1) := by decide +kernel
theorem d_P_areGood_92 : decode b_P_areGood 92 = .ok (.goto 4, 3) := by decide +kernel
theorem d_P_areGood_95 : decode b_P_areGood 95 = .ok (.iconst 0, 1) := by decide +kernel
theorem d_P_areGood_96 : decode b_P_areGood 96 = .ok (.ireturn, 1) := by decide +kernel
theorem d_P_areGood_97 : decode b_P_areGood 97 = .ok (.iload_n 2, 1) := by decide +kernel
theorem d_P_areGood_98 : decode b_P_areGood 98 = .ok (.invokestatic 85, 3) := by decide +kernel
theorem d_P_areGood_101 : decode b_P_areGood 101 = .ok (.ifCond .eq 23, 3) := by decide +kernel
theorem d_P_areGood_104 : decode b_P_areGood 104 = .ok (.iload_n 3, 1) := by decide +kernel
theorem d_P_areGood_105 : decode b_P_areGood 105 = .ok (.invokestatic 85, 3) := by decide +kernel
theorem d_P_areGood_108 : decode b_P_areGood 108 = .ok (.ifCond .eq 16, 3) := by decide +kernel
theorem d_P_areGood_111 : decode b_P_areGood 111 = .ok (.aload_n 0, 1) := by decide +kernel
theorem d_P_areGood_112 : decode b_P_areGood 112 = .ok (.iload 4, 2) := by decide +kernel
theorem d_P_areGood_114 : decode b_P_areGood 114 = .ok (.invokevirtual 88, 3) := by decide +kernel
theorem d_P_areGood_117 : decode b_P_areGood 117 = .ok (.ifCond .eq 7, 3) := by decide +kernel
theorem d_P_areGood_120 : decode b_P_areGood 120 = .ok (.iconst 1, 1) := by decide +kernel
theorem d_P_areGood_121 : decode b_P_areGood 121 = .ok (.goto 4, 3) := by decide +kernel
theorem d_P_areGood_124 : decode b_P_areGood 124 = .ok (.iconst 0, 1) := by decide +kernel
theorem d_P_areGood_125 : decode b_P_areGood 125 = .ok (.ireturn, 1) := by decide +kernel
theorem d_P_areGood_126 : decode b_P_areGood 126 = .ok (.iload_n 2, 1) := by decide +kernel
theorem d_P_areGood_127 : decode b_P_areGood 127 = .ok (.invokestatic 85, 3) := by decide +kernel
theorem d_P_areGood_130 : decode b_P_areGood 130 = .ok (.ifCond .eq 23, 3) := by decide +kernel
theorem d_P_areGood_133 : decode b_P_areGood 133 = .ok (.iload_n 3, 1) := by decide +kernel
theorem d_P_areGood_134 : decode b_P_areGood 134 = .ok (.invokestatic 85, 3) := by decide +kernel
theorem d_P_areGood_137 : decode b_P_areGood 137 = .ok (.ifCond .eq 16, 3) := by decide +kernel
theorem d_P_areGood_140 : decode b_P_areGood 140 = .ok (.aload_n 0, 1) := by decide +kernel
theorem d_P_areGood_141 : decode b_P_areGood 141 = .ok (.iload 4, 2) := by decide +kernel
theorem d_P_areGood_143 : decode b_P_areGood 143 = .ok (.invokevirtual 72, 3) := by decide +kernel
theorem d_P_areGood_146 : decode b_P_areGood 146 = .ok (.ifCond .eq 7, 3) := by decide +kernel
theorem d_P_areGood_149 : decode b_P_areGood 149 = .ok (.iconst 1, 1) := by decide +kernel
theorem d_P_areGood_150 : decode b_P_areGood 150 = .ok (.goto 4, 3) := by decide +kernel
theorem d_P_areGood_153 : decode b_P_areGood 153 = .ok (.iconst 0, 1) := by decide +kernel
theorem d_P_areGood_154 : decode b_P_areGood 154 = .ok (.ireturn, 1) := by decide +kernel
theorem d_P_areGood_155 : decode b_P_areGood 155 = .ok (.iload_n 2, 1) := by decide +kernel
theorem d_P_areGood_156 : decode b_P_areGood 156 = .ok (.invokestatic 85, 3) := by decide +kernel
theorem d_P_areGood_159 : decode b_P_areGood 159 = .ok (.ifCond .eq 14, 3) := by decide +kernel
theorem d_P_areGood_162 : decode b_P_areGood 162 = .ok (.iload_n 3, 1) := by decide +kernel
theorem d_P_areGood_163 : decode b_P_areGood 163 = .ok (.invokestatic 91, 3) := by decide +kernel
theorem d_P_areGood_166 : decode b_P_areGood 166 = .ok (.ifCond .eq 7, 3) := by decide +kernel
theorem d_P_areGood_169 : decode b_P_areGood 169 = .ok (.iconst 1, 1) := by decide +kernel
theorem d_P_areGood_170 : decode b_P_areGood 170 = .ok (.goto 4, 3) := by decide +kernel
theorem d_P_areGood_173 : decode b_P_areGood 173 = .ok (.iconst 0, 1) := by decide +kernel
theorem d_P_areGood_174 : decode b_P_areGood 174 = .ok (.ireturn, 1) := by decide +kernel
theorem d_P_areGood_175 : decode b_P_areGood 175 = .ok (.iload_n 2, 1) := by decide +kernel
theorem d_P_areGood_176 : decode b_P_areGood 176 = .ok (.invokestatic 91, 3) := by decide +kernel
theorem d_P_areGood_179 : decode b_P_areGood 179 = .ok (.ifCond .eq 14, 3) := by decide +kernel
theorem d_P_areGood_182 : decode b_P_areGood 182 = .ok (.iload_n 3, 1) := by decide +kernel
theorem d_P_areGood_183 : decode b_P_areGood 183 = .ok (.invokestatic 85, 3) := by decide +kernel
theorem d_P_areGood_186 : decode b_P_areGood 186 = .ok (.ifCond .eq 7, 3) := by decide +kernel
theorem d_P_areGood_189 : decode b_P_areGood 189 = .ok (.iconst 1, 1) := by decide +kernel
theorem d_P_areGood_190 : decode b_P_areGood 190 = .ok (.goto 4, 3) := by decide +kernel
theorem d_P_areGood_193 : decode b_P_areGood 193 = .ok (.iconst 0, 1) := by decide +kernel
theorem d_P_areGood_194 : decode b_P_areGood 194 = .ok (.ireturn, 1) := by decide +kernel
theorem d_P_areGood_195 : decode b_P_areGood 195 = .ok (.iload_n 2, 1) := by decide +kernel
theorem d_P_areGood_196 : decode b_P_areGood 196 = .ok (.invokestatic 85, 3) := by decide +kernel
theorem d_P_areGood_199 : decode b_P_areGood 199 = .ok (.ifCond .eq 30, 3) := by decide +kernel
theorem d_P_areGood_202 : decode b_P_areGood 202 = .ok (.iload_n 3, 1) := by decide +kernel
theorem d_P_areGood_203 : decode b_P_areGood 203 = .ok (.invokestatic 85, 3) := by decide +kernel
theorem d_P_areGood_206 : decode b_P_areGood 206 = .ok (.ifCond .eq 23, 3) := by decide +kernel
theorem d_P_areGood_209 : decode b_P_areGood 209 = .ok (.iload 5, 2) := by decide +kernel
theorem d_P_areGood_211 : decode b_P_areGood 211 = .ok (.invokestatic 85, 3) := by decide +kernel
theorem d_P_areGood_214 : decode b_P_areGood 214 = .ok (.ifCond .eq 15, 3) := by decide +kernel
theorem d_P_areGood_217 : decode b_P_areGood 217 = .ok (.iload 6, 2) := by decide +kernel
theorem d_P_areGood_219 : decode b_P_areGood 219 = .ok (.invokestatic 85, 3) := by decide +kernel
theorem d_P_areGood_222 : decode b_P_areGood 222 = .ok (.ifCond .eq 7, 3) := by decide +kernel
theorem d_P_areGood_225 : decode b_P_areGood 225 = .ok (.iconst 1, 1) := by decide +kernel
theorem d_P_areGood_226 : decode b_P_areGood 226 = .ok (.goto 4, 3) := by decide +kernel
theorem d_P_areGood_229 : decode b_P_areGood 229 = .ok (.iconst 0, 1) := by decide +kernel
theorem d_P_areGood_230 : decode b_P_areGood 230 = .ok (.ireturn, 1) := by decide +kernel
theorem d_P_isName_0 : decode b_P_isName 0 = .ok (.iload_n 0, 1) := by decide +kernel
theorem d_P_isName_1 : decode b_P_isName 1 = .ok (.ifCond .lt 13, 3) := by decide +kernel
theorem d_P_isName_4 : decode b_P_isName 4 = .ok (.iload_n 0, 1) := by decide +kernel
theorem d_P_isName_5 : decode b_P_isName 5 = .ok (.bipush 6, 2) := by decide +kernel
theorem d_P_isName_7 : decode b_P_isName 7 = .ok (.if_icmp .ge 7, 3) := by decide +kernel
theorem d_P_isName_10 : decode b_P_isName 10 = .ok (.iconst 1, 1) := by decide +kernel
theorem d_P_isName_11 : decode b_P_isName 11 = .ok (.goto 4, 3) := by decide +kernel
theorem d_P_isName_14 : decode b_P_isName 14 = .ok (.iconst 0, 1) := by decide +kernel
theorem d_P_isName_15 : decode b_P_isName 15 = .ok (.ireturn, 1) := by decide +kernel
theorem d_P_isField_0 : decode b_P_isField 0 = .ok (.iload_n 1, 1) := by decide +kernel
theorem d_P_isField_1 : decode b_P_isField 1 = .ok (.ifCond .lt 15, 3) := by decide +kernel
theorem d_P_isField_4 : decode b_P_isField 4 = .ok (.iload_n 1, 1) := by decide +kernel
theorem d_P_isField_5 : decode b_P_isField 5 = .ok (.aload_n 0, 1) := by decide +kernel
theorem d_P_isField_6 : decode b_P_isField 6 = .ok (.getfield 69, 3) := by decide +kernel
theorem d_P_isField_9 : decode b_P_isField 9 = .ok (.if_icmp .ge 7, 3) := by decide +kernel
theorem d_P_isField_12 : decode b_P_isField 12 = .ok (.iconst 1, 1) := by decide +kernel
theorem d_P_isField_13 : decode b_P_isField 13 = .ok (.goto 4, 3) := by decide +kernel
theorem d_P_isField_16 : decode b_P_isField 16 = .ok (.iconst 0, 1) := by decide +kernel
theorem d_P_isField_17 : decode b_P_isField 17 = .ok (.ireturn, 1) := by decide +kernel
theorem d_P_isStatic_0 : decode b_P_isStatic 0 = .ok (.iload_n 0, 1) := by decide +kernel
theorem d_P_isStatic_1 : decode b_P_isStatic 1 = .ok (.ifCond .lt 12, 3) := by decide +kernel
theorem d_P_isStatic_4 : decode b_P_isStatic 4 = .ok (.iload_n 0, 1) := by decide +kernel
theorem d_P_isStatic_5 : decode b_P_isStatic 5 = .ok (.iconst 4, 1) := by decide +kernel
theorem d_P_isStatic_6 : decode b_P_isStatic 6 = .ok (.if_icmp .ge 7, 3) := by decide +kernel
theorem d_P_isStatic_9 : decode b_P_isStatic 9 = .ok (.iconst 1, 1) := by decide +kernel
theorem d_P_isStatic_10 : decode b_P_isStatic 10 = .ok (.goto 4, 3) := by decide +kernel
theorem d_P_isStatic_13 : decode b_P_isStatic 13 = .ok (.iconst 0, 1) := by decide +kernel
theorem d_P_isStatic_14 : decode b_P_isStatic 14 = .ok (.ireturn, 1) := by decide +kernel
theorem d_P_mode_0 : decode b_P_mode 0 = .ok (.iload_n 1, 1) := by decide +kernel
theorem d_P_mode_1 : decode b_P_mode 1 = .ok (.ifCond .lt 8, 3) := by decide +kernel
theorem d_P_mode_4 : decode b_P_mode 4 = .ok (.iload_n 1, 1) := by decide +kernel
theorem d_P_mode_5 : decode b_P_mode 5 = .ok (.iconst 1, 1) := by decide +kernel
theorem d_P_mode_6 : decode b_P_mode 6 = .ok (.if_icmp .le 6, 3) := by decide +kernel
theorem d_P_mode_9 : decode b_P_mode 9 = .ok (.bipush (-2), 2) := by decide +kernel
theorem d_P_mode_11 : decode b_P_mode 11 = .ok (.ireturn, 1) := by decide +kernel
theorem d_P_mode_12 : decode b_P_mode 12 = .ok (.aload_n 0, 1) := by decide +kernel
theorem d_P_mode_13 : decode b_P_mode 13 = .ok (.getfield 117, 3) := by decide +kernel
theorem d_P_mode_16 : decode b_P_mode 16 = .ok (.istore_n 2, 1) := by decide +kernel
theorem d_P_mode_17 : decode b_P_mode 17 = .ok (.aload_n 0, 1) := by decide +kernel
theorem d_P_mode_18 : decode b_P_mode 18 = .ok (.iload_n 1, 1) := by decide +kernel
theorem d_P_mode_19 : decode b_P_mode 19 = .ok (.putfield 117, 3) := by decide +kernel
theorem d_P_mode_22 : decode b_P_mode 22 = .ok (.aload_n 0, 1) := by decide +kernel
theorem d_P_mode_23 : decode b_P_mode 23 = .ok (.invokevirtual 76, 3) := by decide +kernel
theorem d_P_mode_26 : decode b_P_mode 26 = .ok (.iload_n 2, 1) := by decide +kernel
theorem d_P_mode_27 : decode b_P_mode 27 = .ok (.ireturn, 1) := by decide +kernel
theorem d_P_clear_0 : decode b_P_clear 0 = .ok (.aload_n 0, 1) := by decide +kernel
theorem d_P_clear_1 : decode b_P_clear 1 = .ok (.getfield 25, 3) := by decide +kernel
theorem d_P_clear_4 : decode b_P_clear 4 = .ok (.invokeinterface 101 1, 5) := by decide +kernel
theorem d_P_clear_9 : decode b_P_clear 9 = .ok (.istore_n 1, 1) := by decide +kernel
theorem d_P_clear_10 : decode b_P_clear 10 = .ok (.aload_n 0, 1) := by decide +kernel
theorem d_P_clear_11 : decode b_P_clear 11 = .ok (.iconst 0, 1) := by decide +kernel
theorem d_P_clear_12 : decode b_P_clear 12 = .ok (.putfield 66, 3) := by decide +kernel
theorem d_P_clear_15 : decode b_P_clear 15 = .ok (.aload_n 0, 1) := by decide +kernel
theorem d_P_clear_16 : decode b_P_clear 16 = .ok (.iconst 0, 1) := by decide +kernel
theorem d_P_clear_17 : decode b_P_clear 17 = .ok (.putfield 69, 3) := by decide +kernel
theorem d_P_clear_20 : decode b_P_clear 20 = .ok (.aload_n 0, 1) := by decide +kernel
theorem d_P_clear_21 : decode b_P_clear 21 = .ok (.iconst 0, 1) := by decide +kernel
theorem d_P_clear_22 : decode b_P_clear 22 = .ok (.putfield 44, 3) := by decide +kernel
theorem d_P_clear_25 : decode b_P_clear 25 = .ok (.aload_n 0, 1) := by decide +kernel
theorem d_P_clear_26 : decode b_P_clear 26 = .ok (.iconst 0, 1) := by decide +kernel
theorem d_P_clear_27 : decode b_P_clear 27 = .ok (.putfield 52, 3) := by decide +kernel
theorem d_P_clear_30 : decode b_P_clear 30 = .ok (.aload_n 0, 1) := by decide +kernel
theorem d_P_clear_31 : decode b_P_clear 31 = .ok (.getfield 25, 3) := by decide +kernel
theorem d_P_clear_34 : decode b_P_clear 34 = .ok (.invokeinterface 120 1, 5) := by decide +kernel
theorem d_P_clear_39 : decode b_P_clear 39 = .ok (.aload_n 0, 1) := by decide +kernel
theorem d_P_clear_40 : decode b_P_clear 40 = .ok (.getfield 29, 3) := by decide +kernel
theorem d_P_clear_43 : decode b_P_clear 43 = .ok (.invokeinterface 120 1, 5) := by decide +kernel
theorem d_P_clear_48 : decode b_P_clear 48 = .ok (.aload_n 0, 1) := by decide +kernel
theorem d_P_clear_49 : decode b_P_clear 49 = .ok (.invokevirtual 76, 3) := by decide +kernel
theorem d_P_clear_52 : decode b_P_clear 52 = .ok (.iload_n 1, 1) := by decide +kernel
theorem d_P_clear_53 : decode b_P_clear 53 = .ok (.ireturn, 1) := by decide +kernel
theorem d_P_points_0 : decode b_P_points 0 = .ok (.aload_n 0, 1) := by decide +kernel
theorem d_P_points_1 : decode b_P_points 1 = .ok (.iload_n 1, 1) := by decide +kernel
theorem d_P_points_2 : decode b_P_points 2 = .ok (.invokevirtual 94, 3) := by decide +kernel
theorem d_P_points_5 : decode b_P_points 5 = .ok (.ifCond .eq 34, 3) := by decide +kernel
theorem d_P_points_8 : decode b_P_points 8 = .ok (.iload_n 3, 1) := by decide +kernel
theorem d_P_points_9 : decode b_P_points 9 = .ok (.invokestatic 85, 3) := by decide +kernel
theorem d_P_points_12 : decode b_P_points 12 = .ok (.ifCond .eq 27, 3) := by decide +kernel
theorem d_P_points_15 : decode b_P_points 15 = .ok (.iload_n 2, 1) := by decide +kernel
theorem d_P_points_16 : decode b_P_points 16 = .ok (.iconst (-1), 1) := by decide +kernel
theorem d_P_points_17 : decode b_P_points 17 = .ok (.if_icmp .lt 22, 3) := by decide +kernel
theorem d_P_points_20 : decode b_P_points 20 = .ok (.iload_n 2, 1) := by decide +kernel
theorem d_P_points_21 : decode b_P_points 21 = .ok (.aload_n 0, 1) := by decide +kernel
theorem d_P_points_22 : decode b_P_points 22 = .ok (.getfield 117, 3) := by decide +kernel
theorem d_P_points_25 : decode b_P_points 25 = .ok (.ifCond .ne 7, 3) := by decide +kernel
theorem d_P_points_28 : decode b_P_points 28 = .ok (.iconst 0, 1) := by decide +kernel
theorem d_P_points_29 : decode b_P_points 29 = .ok (.goto 7, 3) := by decide +kernel
theorem d_P_points_32 : decode b_P_points 32 = .ok (.aload_n 0, 1) := by decide +kernel
theorem d_P_points_33 : decode b_P_points 33 = .ok (.getfield 52, 3) := by decide +kernel
theorem d_P_points_36 : decode b_P_points 36 = .ok (.if_icmp .le 5, 3) := by decide +kernel
theorem d_P_points_39 : decode b_P_points 39 = .ok (.iconst (-1), 1) := by decide +kernel
theorem d_P_points_40 : decode b_P_points 40 = .ok (.ireturn, 1) := by decide +kernel
theorem d_P_points_41 : decode b_P_points 41 = .ok (.aload_n 0, 1) := by decide +kernel
theorem d_P_points_42 : decode b_P_points 42 = .ok (.invokevirtual 123, 3) := by decide +kernel
theorem d_P_points_45 : decode b_P_points 45 = .ok (.iload_n 2, 1) := by decide +kernel
theorem d_P_points_46 : decode b_P_points 46 = .ok (.ifCond .ge 15, 3) := by decide +kernel
theorem d_P_points_49 : decode b_P_points 49 = .ok (.aload_n 0, 1) := by decide +kernel
theorem d_P_points_50 : decode b_P_points 50 = .ok (.getfield 40, 3) := by decide +kernel
theorem d_P_points_53 : decode b_P_points 53 = .ok (.iload_n 1, 1) := by decide +kernel
theorem d_P_points_54 : decode b_P_points 54 = .ok (.iload_n 3, 1) := by decide +kernel
theorem d_P_points_55 : decode b_P_points 55 = .ok (.invokevirtual 124, 3) := by decide +kernel
theorem d_P_points_58 : decode b_P_points 58 = .ok (.goto 19, 3) := by decide +kernel
theorem d_P_points_61 : decode b_P_points 61 = .ok (.aload_n 0, 1) := by decide +kernel
theorem d_P_points_62 : decode b_P_points 62 = .ok (.getfield 40, 3) := by decide +kernel
theorem d_P_points_65 : decode b_P_points 65 = .ok (.iload_n 1, 1) := by decide +kernel
theorem d_P_points_66 : decode b_P_points 66 = .ok (.iload_n 2, 1) := by decide +kernel
theorem d_P_points_67 : decode b_P_points 67 = .ok (.invokevirtual 128, 3) := by decide +kernel
theorem d_P_points_70 : decode b_P_points 70 = .ok (.iload_n 3, 1) := by decide +kernel
theorem d_P_points_71 : decode b_P_points 71 = .ok (.invokevirtual 132, 3) := by decide +kernel
theorem d_P_points_74 : decode b_P_points 74 = .ok (.getfield 138, 3) := by decide +kernel
theorem d_P_points_77 : decode b_P_points 77 = .ok (.ireturn, 1) := by decide +kernel
theorem d_P_find_0 : decode b_P_find 0 = .ok (.aload_n 0, 1) := by decide +kernel
theorem d_P_find_1 : decode b_P_find 1 = .ok (.getfield 55, 3) := by decide +kernel
theorem d_P_find_4 : decode b_P_find 4 = .ok (.ifCond .eq 4, 3) := by decide +kernel
theorem d_P_find_7 : decode b_P_find 7 = .ok (.return_, 1) := by decide +kernel
theorem d_P_find_8 : decode b_P_find 8 = .ok (.aload_n 0, 1) := by decide +kernel
theorem d_P_find_9 : decode b_P_find 9 = .ok (.iconst 1, 1) := by decide +kernel
theorem d_P_find_10 : decode b_P_find 10 = .ok (.putfield 55, 3) := by decide +kernel
theorem d_P_find_13 : decode b_P_find 13 = .ok (.aload_n 0, 1) := by decide +kernel
theorem d_P_find_14 : decode b_P_find 14 = .ok (.getfield 40, 3) := by decide +kernel
theorem d_P_find_17 : decode b_P_find 17 = .ok (.invokevirtual 63, 3) := by decide +kernel
theorem d_P_find_20 : decode b_P_find 20 = .ok (.return_, 1) := by decide +kernel
theorem d_P_hasField_0 : decode b_P_hasField 0 = .ok (.aload_n 0, 1) := by decide +kernel
theorem d_P_hasField_1 : decode b_P_hasField 1 = .ok (.aload_n 0, 1) := by decide +kernel
theorem d_P_hasField_2 : decode b_P_hasField 2 = .ok (.getfield 32, 3) := by decide +kernel
theorem d_P_hasField_5 : decode b_P_hasField 5 = .ok (.iload_n 1, 1) := by decide +kernel
theorem d_P_hasField_6 : decode b_P_hasField 6 = .ok (.iaload, 1) := by decide +kernel
theorem d_P_hasField_7 : decode b_P_hasField 7 = .ok (.aload_n 0, 1) := by decide +kernel
theorem d_P_hasField_8 : decode b_P_hasField 8 = .ok (.getfield 13, 3) := by decide +kernel
theorem d_P_hasField_11 : decode b_P_hasField 11 = .ok (.iload_n 2, 1) := by decide +kernel
theorem d_P_hasField_12 : decode b_P_hasField 12 = .ok (.iaload, 1) := by decide +kernel
theorem d_P_hasField_13 : decode b_P_hasField 13 = .ok (.invokevirtual 48, 3) := by decide +kernel
theorem d_P_hasField_16 : decode b_P_hasField 16 = .ok (.ireturn, 1) := by decide +kernel
theorem d_P_isUnder_0 : decode b_P_isUnder 0 = .ok (.iload_n 1, 1) := by decide +kernel
theorem d_P_isUnder_1 : decode b_P_isUnder 1 = .ok (.istore_n 3, 1) := by decide +kernel
theorem d_P_isUnder_2 : decode b_P_isUnder 2 = .ok (.iload_n 3, 1) := by decide +kernel
theorem d_P_isUnder_3 : decode b_P_isUnder 3 = .ok (.ifCond .lt 20, 3) := by decide +kernel
theorem d_P_isUnder_6 : decode b_P_isUnder 6 = .ok (.iload_n 3, 1) := by decide +kernel
theorem d_P_isUnder_7 : decode b_P_isUnder 7 = .ok (.iload_n 2, 1) := by decide +kernel
theorem d_P_isUnder_8 : decode b_P_isUnder 8 = .ok (.if_icmp .ne 5, 3) := by decide +kernel
theorem d_P_isUnder_11 : decode b_P_isUnder 11 = .ok (.iconst 1, 1) := by decide +kernel
theorem d_P_isUnder_12 : decode b_P_isUnder 12 = .ok (.ireturn, 1) := by decide +kernel
theorem d_P_isUnder_13 : decode b_P_isUnder 13 = .ok (.aload_n 0, 1) := by decide +kernel
theorem d_P_isUnder_14 : decode b_P_isUnder 14 = .ok (.getfield 7, 3) := by decide +kernel
theorem d_P_isUnder_17 : decode b_P_isUnder 17 = .ok (.iload_n 3, 1) := by decide +kernel
theorem d_P_isUnder_18 : decode b_P_isUnder 18 = .ok (.iaload, 1) := by decide +kernel
theorem d_P_isUnder_19 : decode b_P_isUnder 19 = .ok (.istore_n 3, 1) := by decide +kernel
theorem d_P_isUnder_20 : decode b_P_isUnder 20 = .ok (.goto (-18), 3) := by decide +kernel
theorem d_P_isUnder_23 : decode b_P_isUnder 23 = .ok (.iconst 0, 1) := by decide +kernel
theorem d_P_isUnder_24 : decode b_P_isUnder 24 = .ok (.ireturn, 1) := by decide +kernel
theorem d_P_under_0 : decode b_P_under 0 = .ok (.iconst 0, 1) := by decide +kernel
theorem d_P_under_1 : decode b_P_under 1 = .ok (.istore_n 3, 1) := by decide +kernel
theorem d_P_under_2 : decode b_P_under 2 = .ok (.iconst 0, 1) := by decide +kernel
theorem d_P_under_3 : decode b_P_under 3 = .ok (.istore 4, 2) := by decide +kernel
theorem d_P_under_5 : decode b_P_under 5 = .ok (.iload 4, 2) := by decide +kernel
theorem d_P_under_7 : decode b_P_under 7 = .ok (.aload_n 0, 1) := by decide +kernel
theorem d_P_under_8 : decode b_P_under 8 = .ok (.getfield 52, 3) := by decide +kernel
theorem d_P_under_11 : decode b_P_under 11 = .ok (.if_icmp .ge 41, 3) := by decide +kernel
theorem d_P_under_14 : decode b_P_under 14 = .ok (.iload_n 1, 1) := by decide +kernel
theorem d_P_under_15 : decode b_P_under 15 = .ok (.iload 4, 2) := by decide +kernel
theorem d_P_under_17 : decode b_P_under 17 = .ok (.ishr, 1) := by decide +kernel
theorem d_P_under_18 : decode b_P_under 18 = .ok (.iconst 1, 1) := by decide +kernel
theorem d_P_under_19 : decode b_P_under 19 = .ok (.iand, 1) := by decide +kernel
theorem d_P_under_20 : decode b_P_under 20 = .ok (.iconst 1, 1) := by decide +kernel
theorem d_P_under_21 : decode b_P_under 21 = .ok (.if_icmp .ne 25, 3) := by decide +kernel
theorem d_P_under_24 : decode b_P_under 24 = .ok (.aload_n 0, 1) := by decide +kernel
theorem d_P_under_25 : decode b_P_under 25 = .ok (.aload_n 0, 1) := by decide +kernel
theorem d_P_under_26 : decode b_P_under 26 = .ok (.getfield 32, 3) := by decide +kernel
theorem d_P_under_29 : decode b_P_under 29 = .ok (.iload 4, 2) := by decide +kernel
theorem d_P_under_31 : decode b_P_under 31 = .ok (.iaload, 1) := by decide +kernel
theorem d_P_under_32 : decode b_P_under 32 = .ok (.iload_n 2, 1) := by decide +kernel
theorem d_P_under_33 : decode b_P_under 33 = .ok (.invokevirtual 48, 3) := by decide +kernel
theorem d_P_under_36 : decode b_P_under 36 = .ok (.ifCond .eq 10, 3) := by decide +kernel
theorem d_P_under_39 : decode b_P_under 39 = .ok (.iload_n 3, 1) := by decide +kernel
theorem d_P_under_40 : decode b_P_under 40 = .ok (.iconst 1, 1) := by decide +kernel
theorem d_P_under_41 : decode b_P_under 41 = .ok (.iload 4, 2) := by decide +kernel
theorem d_P_under_43 : decode b_P_under 43 = .ok (.ishl, 1) := by decide +kernel
theorem d_P_under_44 : decode b_P_under 44 = .ok (.ior, 1) := by decide +kernel
theorem d_P_under_45 : decode b_P_under 45 = .ok (.istore_n 3, 1) := by decide +kernel
theorem d_P_under_46 : decode b_P_under 46 = .ok (.iinc 4 1, 3) := by decide +kernel
theorem d_P_under_49 : decode b_P_under 49 = .ok (.goto (-44), 3) := by decide +kernel
theorem d_P_under_52 : decode b_P_under 52 = .ok (.iload_n 3, 1) := by decide +kernel
theorem d_P_under_53 : decode b_P_under 53 = .ok (.ireturn, 1) := by decide +kernel
theorem d_P_found_0 : decode b_P_found 0 = .ok (.iload_n 1, 1) := by decide +kernel
theorem d_P_found_1 : decode b_P_found 1 = .ok (.istore_n 3, 1) := by decide +kernel
theorem d_P_found_2 : decode b_P_found 2 = .ok (.iload_n 3, 1) := by decide +kernel
theorem d_P_found_3 : decode b_P_found 3 = .ok (.ifCond .lt 56, 3) := by decide +kernel
theorem d_P_found_6 : decode b_P_found 6 = .ok (.iconst 0, 1) := by decide +kernel
theorem d_P_found_7 : decode b_P_found 7 = .ok (.istore 4, 2) := by decide +kernel
theorem d_P_found_9 : decode b_P_found 9 = .ok (.iload 4, 2) := by decide +kernel
theorem d_P_found_11 : decode b_P_found 11 = .ok (.aload_n 0, 1) := by decide +kernel
theorem d_P_found_12 : decode b_P_found 12 = .ok (.getfield 44, 3) := by decide +kernel
theorem d_P_found_15 : decode b_P_found 15 = .ok (.if_icmp .ge 34, 3) := by decide +kernel
theorem d_P_found_18 : decode b_P_found 18 = .ok (.aload_n 0, 1) := by decide +kernel
theorem d_P_found_19 : decode b_P_found 19 = .ok (.getfield 16, 3) := by decide +kernel
theorem d_P_found_22 : decode b_P_found 22 = .ok (.iload 4, 2) := by decide +kernel
theorem d_P_found_24 : decode b_P_found 24 = .ok (.iaload, 1) := by decide +kernel
theorem d_P_found_25 : decode b_P_found 25 = .ok (.iload_n 3, 1) := by decide +kernel
theorem d_P_found_26 : decode b_P_found 26 = .ok (.if_icmp .ne 17, 3) := by decide +kernel
theorem d_P_found_29 : decode b_P_found 29 = .ok (.aload_n 0, 1) := by decide +kernel
theorem d_P_found_30 : decode b_P_found 30 = .ok (.getfield 19, 3) := by decide +kernel
theorem d_P_found_33 : decode b_P_found 33 = .ok (.iload 4, 2) := by decide +kernel
theorem d_P_found_35 : decode b_P_found 35 = .ok (.iaload, 1) := by decide +kernel
theorem d_P_found_36 : decode b_P_found 36 = .ok (.iload_n 2, 1) := by decide +kernel
theorem d_P_found_37 : decode b_P_found 37 = .ok (.if_icmp .ne 6, 3) := by decide +kernel
theorem d_P_found_40 : decode b_P_found 40 = .ok (.iload 4, 2) := by decide +kernel
theorem d_P_found_42 : decode b_P_found 42 = .ok (.ireturn, 1) := by decide +kernel
theorem d_P_found_43 : decode b_P_found 43 = .ok (.iinc 4 1, 3) := by decide +kernel
theorem d_P_found_46 : decode b_P_found 46 = .ok (.goto (-37), 3) := by decide +kernel
theorem d_P_found_49 : decode b_P_found 49 = .ok (.aload_n 0, 1) := by decide +kernel
theorem d_P_found_50 : decode b_P_found 50 = .ok (.getfield 7, 3) := by decide +kernel
theorem d_P_found_53 : decode b_P_found 53 = .ok (.iload_n 3, 1) := by decide +kernel
theorem d_P_found_54 : decode b_P_found 54 = .ok (.iaload, 1) := by decide +kernel
theorem d_P_found_55 : decode b_P_found 55 = .ok (.istore_n 3, 1) := by decide +kernel
theorem d_P_found_56 : decode b_P_found 56 = .ok (.goto (-54), 3) := by decide +kernel
theorem d_P_found_59 : decode b_P_found 59 = .ok (.iconst (-1), 1) := by decide +kernel
theorem d_P_found_60 : decode b_P_found 60 = .ok (.ireturn, 1) := by decide +kernel
theorem d_P_inField_0 : decode b_P_inField 0 = .ok (.aload_n 0, 1) := by decide +kernel
theorem d_P_inField_1 : decode b_P_inField 1 = .ok (.iload_n 1, 1) := by decide +kernel
theorem d_P_inField_2 : decode b_P_inField 2 = .ok (.invokevirtual 143, 3) := by decide +kernel
theorem d_P_inField_5 : decode b_P_inField 5 = .ok (.ifCond .eq 11, 3) := by decide +kernel
theorem d_P_inField_8 : decode b_P_inField 8 = .ok (.aload_n 0, 1) := by decide +kernel
theorem d_P_inField_9 : decode b_P_inField 9 = .ok (.iload_n 2, 1) := by decide +kernel
theorem d_P_inField_10 : decode b_P_inField 10 = .ok (.invokevirtual 88, 3) := by decide +kernel
theorem d_P_inField_13 : decode b_P_inField 13 = .ok (.ifCond .ne 5, 3) := by decide +kernel
theorem d_P_inField_16 : decode b_P_inField 16 = .ok (.iconst (-1), 1) := by decide +kernel
theorem d_P_inField_17 : decode b_P_inField 17 = .ok (.ireturn, 1) := by decide +kernel
theorem d_P_inField_18 : decode b_P_inField 18 = .ok (.aload_n 0, 1) := by decide +kernel
theorem d_P_inField_19 : decode b_P_inField 19 = .ok (.invokevirtual 123, 3) := by decide +kernel
theorem d_P_inField_22 : decode b_P_inField 22 = .ok (.aload_n 0, 1) := by decide +kernel
theorem d_P_inField_23 : decode b_P_inField 23 = .ok (.getfield 40, 3) := by decide +kernel
theorem d_P_inField_26 : decode b_P_inField 26 = .ok (.iload_n 1, 1) := by decide +kernel
theorem d_P_inField_27 : decode b_P_inField 27 = .ok (.iload_n 2, 1) := by decide +kernel
theorem d_P_inField_28 : decode b_P_inField 28 = .ok (.invokevirtual 146, 3) := by decide +kernel
theorem d_P_inField_31 : decode b_P_inField 31 = .ok (.getfield 138, 3) := by decide +kernel
theorem d_P_inField_34 : decode b_P_inField 34 = .ok (.ireturn, 1) := by decide +kernel
theorem d_P_isSite_0 : decode b_P_isSite 0 = .ok (.iload_n 1, 1) := by decide +kernel
theorem d_P_isSite_1 : decode b_P_isSite 1 = .ok (.ifCond .lt 15, 3) := by decide +kernel
theorem d_P_isSite_4 : decode b_P_isSite 4 = .ok (.iload_n 1, 1) := by decide +kernel
theorem d_P_isSite_5 : decode b_P_isSite 5 = .ok (.aload_n 0, 1) := by decide +kernel
theorem d_P_isSite_6 : decode b_P_isSite 6 = .ok (.getfield 52, 3) := by decide +kernel
theorem d_P_isSite_9 : decode b_P_isSite 9 = .ok (.if_icmp .ge 7, 3) := by decide +kernel
theorem d_P_isSite_12 : decode b_P_isSite 12 = .ok (.iconst 1, 1) := by decide +kernel
theorem d_P_isSite_13 : decode b_P_isSite 13 = .ok (.goto 4, 3) := by decide +kernel
theorem d_P_isSite_16 : decode b_P_isSite 16 = .ok (.iconst 0, 1) := by decide +kernel
theorem d_P_isSite_17 : decode b_P_isSite 17 = .ok (.ireturn, 1) := by decide +kernel
theorem d_P_element_0 : decode b_P_element 0 = .ok (.aload_n 0, 1) := by decide +kernel
theorem d_P_element_1 : decode b_P_element 1 = .ok (.iload_n 1, 1) := by decide +kernel
theorem d_P_element_2 : decode b_P_element 2 = .ok (.invokevirtual 143, 3) := by decide +kernel
theorem d_P_element_5 : decode b_P_element 5 = .ok (.ifCond .ne 5, 3) := by decide +kernel
theorem d_P_element_8 : decode b_P_element 8 = .ok (.iconst (-1), 1) := by decide +kernel
theorem d_P_element_9 : decode b_P_element 9 = .ok (.ireturn, 1) := by decide +kernel
theorem d_P_element_10 : decode b_P_element 10 = .ok (.aload_n 0, 1) := by decide +kernel
theorem d_P_element_11 : decode b_P_element 11 = .ok (.invokevirtual 123, 3) := by decide +kernel
theorem d_P_element_14 : decode b_P_element 14 = .ok (.aload_n 0, 1) := by decide +kernel
theorem d_P_element_15 : decode b_P_element 15 = .ok (.getfield 40, 3) := by decide +kernel
theorem d_P_element_18 : decode b_P_element 18 = .ok (.getfield 150, 3) := by decide +kernel
theorem d_P_element_21 : decode b_P_element 21 = .ok (.iload_n 1, 1) := by decide +kernel
theorem d_P_element_22 : decode b_P_element 22 = .ok (.invokeinterface 113 2, 5) := by decide +kernel
theorem d_P_element_27 : decode b_P_element 27 = .ok (.checkcast 139, 3) := by decide +kernel
theorem d_P_element_30 : decode b_P_element 30 = .ok (.getfield 138, 3) := by decide +kernel
theorem d_P_element_33 : decode b_P_element 33 = .ok (.ireturn, 1) := by decide +kernel
theorem d_P_inStatic_0 : decode b_P_inStatic 0 = .ok (.iload_n 1, 1) := by decide +kernel
theorem d_P_inStatic_1 : decode b_P_inStatic 1 = .ok (.invokestatic 91, 3) := by decide +kernel
theorem d_P_inStatic_4 : decode b_P_inStatic 4 = .ok (.ifCond .ne 5, 3) := by decide +kernel
theorem d_P_inStatic_7 : decode b_P_inStatic 7 = .ok (.iconst (-1), 1) := by decide +kernel
theorem d_P_inStatic_8 : decode b_P_inStatic 8 = .ok (.ireturn, 1) := by decide +kernel
theorem d_P_inStatic_9 : decode b_P_inStatic 9 = .ok (.aload_n 0, 1) := by decide +kernel
theorem d_P_inStatic_10 : decode b_P_inStatic 10 = .ok (.invokevirtual 123, 3) := by decide +kernel
theorem d_P_inStatic_13 : decode b_P_inStatic 13 = .ok (.aload_n 0, 1) := by decide +kernel
theorem d_P_inStatic_14 : decode b_P_inStatic 14 = .ok (.getfield 40, 3) := by decide +kernel
theorem d_P_inStatic_17 : decode b_P_inStatic 17 = .ok (.getfield 153, 3) := by decide +kernel
theorem d_P_inStatic_20 : decode b_P_inStatic 20 = .ok (.iload_n 1, 1) := by decide +kernel
theorem d_P_inStatic_21 : decode b_P_inStatic 21 = .ok (.invokeinterface 113 2, 5) := by decide +kernel
theorem d_P_inStatic_26 : decode b_P_inStatic 26 = .ok (.checkcast 139, 3) := by decide +kernel
theorem d_P_inStatic_29 : decode b_P_inStatic 29 = .ok (.getfield 138, 3) := by decide +kernel
theorem d_P_inStatic_32 : decode b_P_inStatic 32 = .ok (.ireturn, 1) := by decide +kernel
theorem d_P_reached_0 : decode b_P_reached 0 = .ok (.aload_n 0, 1) := by decide +kernel
theorem d_P_reached_1 : decode b_P_reached 1 = .ok (.iload_n 1, 1) := by decide +kernel
theorem d_P_reached_2 : decode b_P_reached 2 = .ok (.invokevirtual 94, 3) := by decide +kernel
theorem d_P_reached_5 : decode b_P_reached 5 = .ok (.ifCond .ne 5, 3) := by decide +kernel
theorem d_P_reached_8 : decode b_P_reached 8 = .ok (.iconst (-1), 1) := by decide +kernel
theorem d_P_reached_9 : decode b_P_reached 9 = .ok (.ireturn, 1) := by decide +kernel
theorem d_P_reached_10 : decode b_P_reached 10 = .ok (.aload_n 0, 1) := by decide +kernel
theorem d_P_reached_11 : decode b_P_reached 11 = .ok (.invokevirtual 123, 3) := by decide +kernel
theorem d_P_reached_14 : decode b_P_reached 14 = .ok (.iconst 0, 1) := by decide +kernel
theorem d_P_reached_15 : decode b_P_reached 15 = .ok (.istore_n 2, 1) := by decide +kernel
theorem d_P_reached_16 : decode b_P_reached 16 = .ok (.iconst 0, 1) := by decide +kernel
theorem d_P_reached_17 : decode b_P_reached 17 = .ok (.istore_n 3, 1) := by decide +kernel
theorem d_P_reached_18 : decode b_P_reached 18 = .ok (.iload_n 3, 1) := by decide +kernel
theorem d_P_reached_19 : decode b_P_reached 19 = .ok (.bipush 21, 2) := by decide +kernel
theorem d_P_reached_21 : decode b_P_reached 21 = .ok (.if_icmp .ge 32, 3) := by decide +kernel
theorem d_P_reached_24 : decode b_P_reached 24 = .ok (.iload_n 2, 1) := by decide +kernel
theorem d_P_reached_25 : decode b_P_reached 25 = .ok (.aload_n 0, 1) := by decide +kernel
theorem d_P_reached_26 : decode b_P_reached 26 = .ok (.getfield 40, 3) := by decide +kernel
theorem d_P_reached_29 : decode b_P_reached 29 = .ok (.iload_n 1, 1) := by decide +kernel
theorem d_P_reached_30 : decode b_P_reached 30 = .ok (.iload_n 3, 1) := by decide +kernel
theorem d_P_reached_31 : decode b_P_reached 31 = .ok (.invokevirtual 128, 3) := by decide +kernel
theorem d_P_reached_34 : decode b_P_reached 34 = .ok (.getfield 156, 3) := by decide +kernel
theorem d_P_reached_37 : decode b_P_reached 37 = .ok (.ifCond .eq 7, 3) := by decide +kernel
theorem d_P_reached_40 : decode b_P_reached 40 = .ok (.iconst 1, 1) := by decide +kernel
theorem d_P_reached_41 : decode b_P_reached 41 = .ok (.goto 4, 3) := by decide +kernel
theorem d_P_reached_44 : decode b_P_reached 44 = .ok (.iconst 0, 1) := by decide +kernel
theorem d_P_reached_45 : decode b_P_reached 45 = .ok (.iadd, 1) := by decide +kernel
theorem d_P_reached_46 : decode b_P_reached 46 = .ok (.istore_n 2, 1) := by decide +kernel
theorem d_P_reached_47 : decode b_P_reached 47 = .ok (.iinc 3 1, 3) := by decide +kernel
theorem d_P_reached_50 : decode b_P_reached 50 = .ok (.goto (-32), 3) := by decide +kernel
theorem d_P_reached_53 : decode b_P_reached 53 = .ok (.iload_n 2, 1) := by decide +kernel
theorem d_P_reached_54 : decode b_P_reached 54 = .ok (.ireturn, 1) := by decide +kernel
theorem d_P_may_0 : decode b_P_may 0 = .ok (.iload_n 1, 1) := by decide +kernel
theorem d_P_may_1 : decode b_P_may 1 = .ok (.ifCond .lt 16, 3) := by decide +kernel
theorem d_P_may_4 : decode b_P_may 4 = .ok (.iload_n 1, 1) := by decide +kernel
theorem d_P_may_5 : decode b_P_may 5 = .ok (.aload_n 0, 1) := by decide +kernel
theorem d_P_may_6 : decode b_P_may 6 = .ok (.getfield 25, 3) := by decide +kernel
theorem d_P_may_9 : decode b_P_may 9 = .ok (.invokeinterface 101 1, 5) := by decide +kernel
theorem d_P_may_14 : decode b_P_may 14 = .ok (.if_icmp .lt 5, 3) := by decide +kernel
theorem d_P_may_17 : decode b_P_may 17 = .ok (.iconst (-1), 1) := by decide +kernel
theorem d_P_may_18 : decode b_P_may 18 = .ok (.ireturn, 1) := by decide +kernel
theorem d_P_may_19 : decode b_P_may 19 = .ok (.aload_n 0, 1) := by decide +kernel
theorem d_P_may_20 : decode b_P_may 20 = .ok (.getfield 25, 3) := by decide +kernel
theorem d_P_may_23 : decode b_P_may 23 = .ok (.iload_n 1, 1) := by decide +kernel
theorem d_P_may_24 : decode b_P_may 24 = .ok (.invokeinterface 113 2, 5) := by decide +kernel
theorem d_P_may_29 : decode b_P_may 29 = .ok (.checkcast 105, 3) := by decide +kernel
theorem d_P_may_32 : decode b_P_may 32 = .ok (.astore_n 2, 1) := by decide +kernel
theorem d_P_may_33 : decode b_P_may 33 = .ok (.aload_n 2, 1) := by decide +kernel
theorem d_P_may_34 : decode b_P_may 34 = .ok (.getfield 159, 3) := by decide +kernel
theorem d_P_may_37 : decode b_P_may 37 = .ok (.iconst 4, 1) := by decide +kernel
theorem d_P_may_38 : decode b_P_may 38 = .ok (.if_icmp .eq 15, 3) := by decide +kernel
theorem d_P_may_41 : decode b_P_may 41 = .ok (.aload_n 2, 1) := by decide +kernel
theorem d_P_may_42 : decode b_P_may 42 = .ok (.getfield 159, 3) := by decide +kernel
theorem d_P_may_45 : decode b_P_may 45 = .ok (.bipush 7, 2) := by decide +kernel
theorem d_P_may_47 : decode b_P_may 47 = .ok (.if_icmp .eq 6, 3) := by decide +kernel
theorem d_P_may_50 : decode b_P_may 50 = .ok (.bipush (-3), 2) := by decide +kernel
theorem d_P_may_52 : decode b_P_may 52 = .ok (.ireturn, 1) := by decide +kernel
theorem d_P_may_53 : decode b_P_may 53 = .ok (.aload_n 0, 1) := by decide +kernel
theorem d_P_may_54 : decode b_P_may 54 = .ok (.invokevirtual 123, 3) := by decide +kernel
theorem d_P_may_57 : decode b_P_may 57 = .ok (.iconst 0, 1) := by decide +kernel
theorem d_P_may_58 : decode b_P_may 58 = .ok (.istore_n 3, 1) := by decide +kernel
theorem d_P_may_59 : decode b_P_may 59 = .ok (.iconst 0, 1) := by decide +kernel
theorem d_P_may_60 : decode b_P_may 60 = .ok (.istore 4, 2) := by decide +kernel
theorem d_P_may_62 : decode b_P_may 62 = .ok (.iload 4, 2) := by decide +kernel
theorem d_P_may_64 : decode b_P_may 64 = .ok (.bipush 21, 2) := by decide +kernel
theorem d_P_may_66 : decode b_P_may 66 = .ok (.if_icmp .ge 51, 3) := by decide +kernel
theorem d_P_may_69 : decode b_P_may 69 = .ok (.aload_n 0, 1) := by decide +kernel
theorem d_P_may_70 : decode b_P_may 70 = .ok (.getfield 40, 3) := by decide +kernel
theorem d_P_may_73 : decode b_P_may 73 = .ok (.aload_n 2, 1) := by decide +kernel
theorem d_P_may_74 : decode b_P_may 74 = .ok (.getfield 162, 3) := by decide +kernel
theorem d_P_may_77 : decode b_P_may 77 = .ok (.iload 4, 2) := by decide +kernel
theorem d_P_may_79 : decode b_P_may 79 = .ok (.invokevirtual 128, 3) := by decide +kernel
theorem d_P_may_82 : decode b_P_may 82 = .ok (.astore 5, 2) := by decide +kernel
theorem d_P_may_84 : decode b_P_may 84 = .ok (.iload_n 3, 1) := by decide +kernel
theorem d_P_may_85 : decode b_P_may 85 = .ok (.aload 5, 2) := by decide +kernel
theorem d_P_may_87 : decode b_P_may 87 = .ok (.getfield 156, 3) := by decide +kernel
theorem d_P_may_90 : decode b_P_may 90 = .ok (.ifCond .eq 18, 3) := by decide +kernel
theorem d_P_may_93 : decode b_P_may 93 = .ok (.aload 5, 2) := by decide +kernel
theorem d_P_may_95 : decode b_P_may 95 = .ok (.aload_n 2, 1) := by decide +kernel
theorem d_P_may_96 : decode b_P_may 96 = .ok (.getfield 165, 3) := by decide +kernel
theorem d_P_may_99 : decode b_P_may 99 = .ok (.invokevirtual 132, 3) := by decide +kernel
theorem d_P_may_102 : decode b_P_may 102 = .ok (.getfield 138, 3) := by decide +kernel
theorem d_P_may_105 : decode b_P_may 105 = .ok (.goto 4, 3) := by decide +kernel
theorem d_P_may_108 : decode b_P_may 108 = .ok (.iconst 0, 1) := by decide +kernel
theorem d_P_may_109 : decode b_P_may 109 = .ok (.ior, 1) := by decide +kernel
theorem d_P_may_110 : decode b_P_may 110 = .ok (.istore_n 3, 1) := by decide +kernel
theorem d_P_may_111 : decode b_P_may 111 = .ok (.iinc 4 1, 3) := by decide +kernel
theorem d_P_may_114 : decode b_P_may 114 = .ok (.goto (-52), 3) := by decide +kernel
theorem d_P_may_117 : decode b_P_may 117 = .ok (.aload_n 2, 1) := by decide +kernel
theorem d_P_may_118 : decode b_P_may 118 = .ok (.getfield 159, 3) := by decide +kernel
theorem d_P_may_121 : decode b_P_may 121 = .ok (.iconst 4, 1) := by decide +kernel
theorem d_P_may_122 : decode b_P_may 122 = .ok (.if_icmp .ne 17, 3) := by decide +kernel
theorem d_P_may_125 : decode b_P_may 125 = .ok (.iload_n 3, 1) := by decide +kernel
theorem d_P_may_126 : decode b_P_may 126 = .ok (.aload_n 0, 1) := by decide +kernel
theorem d_P_may_127 : decode b_P_may 127 = .ok (.iload_n 3, 1) := by decide +kernel
theorem d_P_may_128 : decode b_P_may 128 = .ok (.aload_n 2, 1) := by decide +kernel
theorem d_P_may_129 : decode b_P_may 129 = .ok (.getfield 168, 3) := by decide +kernel
theorem d_P_may_132 : decode b_P_may 132 = .ok (.invokevirtual 171, 3) := by decide +kernel
theorem d_P_may_135 : decode b_P_may 135 = .ok (.iconst (-1), 1) := by decide +kernel
theorem d_P_may_136 : decode b_P_may 136 = .ok (.ixor, 1) := by decide +kernel
theorem d_P_may_137 : decode b_P_may 137 = .ok (.iand, 1) := by decide +kernel
theorem d_P_may_138 : decode b_P_may 138 = .ok (.ireturn, 1) := by decide +kernel
theorem d_P_may_139 : decode b_P_may 139 = .ok (.iconst 0, 1) := by decide +kernel
theorem d_P_may_140 : decode b_P_may 140 = .ok (.istore 4, 2) := by decide +kernel
theorem d_P_may_142 : decode b_P_may 142 = .ok (.iconst 0, 1) := by decide +kernel
theorem d_P_may_143 : decode b_P_may 143 = .ok (.istore 5, 2) := by decide +kernel
theorem d_P_may_145 : decode b_P_may 145 = .ok (.iload 5, 2) := by decide +kernel
theorem d_P_may_147 : decode b_P_may 147 = .ok (.aload_n 0, 1) := by decide +kernel
theorem d_P_may_148 : decode b_P_may 148 = .ok (.getfield 52, 3) := by decide +kernel
theorem d_P_may_151 : decode b_P_may 151 = .ok (.if_icmp .ge 58, 3) := by decide +kernel
theorem d_P_may_154 : decode b_P_may 154 = .ok (.iload_n 3, 1) := by decide +kernel
theorem d_P_may_155 : decode b_P_may 155 = .ok (.iload 5, 2) := by decide +kernel
theorem d_P_may_157 : decode b_P_may 157 = .ok (.ishr, 1) := by decide +kernel
theorem d_P_may_158 : decode b_P_may 158 = .ok (.iconst 1, 1) := by decide +kernel
theorem d_P_may_159 : decode b_P_may 159 = .ok (.iand, 1) := by decide +kernel
theorem d_P_may_160 : decode b_P_may 160 = .ok (.iconst 1, 1) := by decide +kernel
theorem d_P_may_161 : decode b_P_may 161 = .ok (.if_icmp .ne 21, 3) := by decide +kernel
theorem d_P_may_164 : decode b_P_may 164 = .ok (.aload_n 0, 1) := by decide +kernel
theorem d_P_may_165 : decode b_P_may 165 = .ok (.aload_n 0, 1) := by decide +kernel
theorem d_P_may_166 : decode b_P_may 166 = .ok (.getfield 32, 3) := by decide +kernel
theorem d_P_may_169 : decode b_P_may 169 = .ok (.iload 5, 2) := by decide +kernel
theorem d_P_may_171 : decode b_P_may 171 = .ok (.iaload, 1) := by decide +kernel
theorem d_P_may_172 : decode b_P_may 172 = .ok (.aload_n 2, 1) := by decide +kernel
theorem d_P_may_173 : decode b_P_may 173 = .ok (.getfield 168, 3) := by decide +kernel
theorem d_P_may_176 : decode b_P_may 176 = .ok (.invokevirtual 174, 3) := by decide +kernel
theorem d_P_may_179 : decode b_P_may 179 = .ok (.goto 4, 3) := by decide +kernel
theorem d_P_may_182 : decode b_P_may 182 = .ok (.iconst (-1), 1) := by decide +kernel
theorem d_P_may_183 : decode b_P_may 183 = .ok (.istore 6, 2) := by decide +kernel
theorem d_P_may_185 : decode b_P_may 185 = .ok (.iload 4, 2) := by decide +kernel
theorem d_P_may_187 : decode b_P_may 187 = .ok (.iload 6, 2) := by decide +kernel
theorem d_P_may_189 : decode b_P_may 189 = .ok (.ifCond .ge 7, 3) := by decide +kernel
theorem d_P_may_192 : decode b_P_may 192 = .ok (.iconst 0, 1) := by decide +kernel
theorem d_P_may_193 : decode b_P_may 193 = .ok (.goto 7, 3) := by decide +kernel
theorem d_P_may_196 : decode b_P_may 196 = .ok (.iconst 1, 1) := by decide +kernel
theorem d_P_may_197 : decode b_P_may 197 = .ok (.iload 6, 2) := by decide +kernel
theorem d_P_may_199 : decode b_P_may 199 = .ok (.ishl, 1) := by decide +kernel
theorem d_P_may_200 : decode b_P_may 200 = .ok (.ior, 1) := by decide +kernel
theorem d_P_may_201 : decode b_P_may 201 = .ok (.istore 4, 2) := by decide +kernel
theorem d_P_may_203 : decode b_P_may 203 = .ok (.iinc 5 1, 3) := by decide +kernel
theorem d_P_may_206 : decode b_P_may 206 = .ok (.goto (-61), 3) := by decide +kernel
theorem d_P_may_209 : decode b_P_may 209 = .ok (.iload 4, 2) := by decide +kernel
theorem d_P_may_211 : decode b_P_may 211 = .ok (.ireturn, 1) := by decide +kernel
theorem d_P_alias_0 : decode b_P_alias 0 = .ok (.aload_n 0, 1) := by decide +kernel
theorem d_P_alias_1 : decode b_P_alias 1 = .ok (.iload_n 1, 1) := by decide +kernel
theorem d_P_alias_2 : decode b_P_alias 2 = .ok (.invokevirtual 94, 3) := by decide +kernel
theorem d_P_alias_5 : decode b_P_alias 5 = .ok (.ifCond .eq 26, 3) := by decide +kernel
theorem d_P_alias_8 : decode b_P_alias 8 = .ok (.iload_n 2, 1) := by decide +kernel
theorem d_P_alias_9 : decode b_P_alias 9 = .ok (.invokestatic 85, 3) := by decide +kernel
theorem d_P_alias_12 : decode b_P_alias 12 = .ok (.ifCond .eq 19, 3) := by decide +kernel
theorem d_P_alias_15 : decode b_P_alias 15 = .ok (.aload_n 0, 1) := by decide +kernel
theorem d_P_alias_16 : decode b_P_alias 16 = .ok (.iload_n 3, 1) := by decide +kernel
theorem d_P_alias_17 : decode b_P_alias 17 = .ok (.invokevirtual 94, 3) := by decide +kernel
theorem d_P_alias_20 : decode b_P_alias 20 = .ok (.ifCond .eq 11, 3) := by decide +kernel
theorem d_P_alias_23 : decode b_P_alias 23 = .ok (.iload 4, 2) := by decide +kernel
theorem d_P_alias_25 : decode b_P_alias 25 = .ok (.invokestatic 85, 3) := by decide +kernel
theorem d_P_alias_28 : decode b_P_alias 28 = .ok (.ifCond .ne 5, 3) := by decide +kernel
theorem d_P_alias_31 : decode b_P_alias 31 = .ok (.iconst (-1), 1) := by decide +kernel
theorem d_P_alias_32 : decode b_P_alias 32 = .ok (.ireturn, 1) := by decide +kernel
theorem d_P_alias_33 : decode b_P_alias 33 = .ok (.aload_n 0, 1) := by decide +kernel
theorem d_P_alias_34 : decode b_P_alias 34 = .ok (.invokevirtual 123, 3) := by decide +kernel
theorem d_P_alias_37 : decode b_P_alias 37 = .ok (.aload_n 0, 1) := by decide +kernel
theorem d_P_alias_38 : decode b_P_alias 38 = .ok (.getfield 40, 3) := by decide +kernel
theorem d_P_alias_41 : decode b_P_alias 41 = .ok (.iload_n 1, 1) := by decide +kernel
theorem d_P_alias_42 : decode b_P_alias 42 = .ok (.iload_n 2, 1) := by decide +kernel
theorem d_P_alias_43 : decode b_P_alias 43 = .ok (.invokevirtual 124, 3) := by decide +kernel
theorem d_P_alias_46 : decode b_P_alias 46 = .ok (.aload_n 0, 1) := by decide +kernel
theorem d_P_alias_47 : decode b_P_alias 47 = .ok (.getfield 40, 3) := by decide +kernel
theorem d_P_alias_50 : decode b_P_alias 50 = .ok (.iload_n 3, 1) := by decide +kernel
theorem d_P_alias_51 : decode b_P_alias 51 = .ok (.iload 4, 2) := by decide +kernel
theorem d_P_alias_53 : decode b_P_alias 53 = .ok (.invokevirtual 124, 3) := by decide +kernel
theorem d_P_alias_56 : decode b_P_alias 56 = .ok (.iand, 1) := by decide +kernel
theorem d_P_alias_57 : decode b_P_alias 57 = .ok (.ifCond .eq 7, 3) := by decide +kernel
theorem d_P_alias_60 : decode b_P_alias 60 = .ok (.iconst 1, 1) := by decide +kernel
theorem d_P_alias_61 : decode b_P_alias 61 = .ok (.goto 4, 3) := by decide +kernel
theorem d_P_alias_64 : decode b_P_alias 64 = .ok (.iconst 0, 1) := by decide +kernel
theorem d_P_alias_65 : decode b_P_alias 65 = .ok (.ireturn, 1) := by decide +kernel
theorem d_P_rounds_0 : decode b_P_rounds 0 = .ok (.aload_n 0, 1) := by decide +kernel
theorem d_P_rounds_1 : decode b_P_rounds 1 = .ok (.invokevirtual 123, 3) := by decide +kernel
theorem d_P_rounds_4 : decode b_P_rounds 4 = .ok (.aload_n 0, 1) := by decide +kernel
theorem d_P_rounds_5 : decode b_P_rounds 5 = .ok (.getfield 40, 3) := by decide +kernel
theorem d_P_rounds_8 : decode b_P_rounds 8 = .ok (.getfield 177, 3) := by decide +kernel
theorem d_P_rounds_11 : decode b_P_rounds 11 = .ok (.ireturn, 1) := by decide +kernel
theorem d_P_when_0 : decode b_P_when 0 = .ok (.aload_n 0, 1) := by decide +kernel
theorem d_P_when_1 : decode b_P_when 1 = .ok (.iload_n 1, 1) := by decide +kernel
theorem d_P_when_2 : decode b_P_when 2 = .ok (.invokevirtual 94, 3) := by decide +kernel
theorem d_P_when_5 : decode b_P_when 5 = .ok (.ifCond .eq 18, 3) := by decide +kernel
theorem d_P_when_8 : decode b_P_when 8 = .ok (.iload_n 2, 1) := by decide +kernel
theorem d_P_when_9 : decode b_P_when 9 = .ok (.invokestatic 85, 3) := by decide +kernel
theorem d_P_when_12 : decode b_P_when 12 = .ok (.ifCond .eq 11, 3) := by decide +kernel
theorem d_P_when_15 : decode b_P_when 15 = .ok (.aload_n 0, 1) := by decide +kernel
theorem d_P_when_16 : decode b_P_when 16 = .ok (.iload_n 3, 1) := by decide +kernel
theorem d_P_when_17 : decode b_P_when 17 = .ok (.invokevirtual 143, 3) := by decide +kernel
theorem d_P_when_20 : decode b_P_when 20 = .ok (.ifCond .ne 5, 3) := by decide +kernel
theorem d_P_when_23 : decode b_P_when 23 = .ok (.iconst (-1), 1) := by decide +kernel
theorem d_P_when_24 : decode b_P_when 24 = .ok (.ireturn, 1) := by decide +kernel
theorem d_P_when_25 : decode b_P_when 25 = .ok (.aload_n 0, 1) := by decide +kernel
theorem d_P_when_26 : decode b_P_when 26 = .ok (.invokevirtual 123, 3) := by decide +kernel
theorem d_P_when_29 : decode b_P_when 29 = .ok (.aload_n 0, 1) := by decide +kernel
theorem d_P_when_30 : decode b_P_when 30 = .ok (.getfield 40, 3) := by decide +kernel
theorem d_P_when_33 : decode b_P_when 33 = .ok (.getfield 180, 3) := by decide +kernel
theorem d_P_when_36 : decode b_P_when 36 = .ok (.bipush 20, 2) := by decide +kernel
theorem d_P_when_38 : decode b_P_when 38 = .ok (.bipush 6, 2) := by decide +kernel
theorem d_P_when_40 : decode b_P_when 40 = .ok (.iload_n 1, 1) := by decide +kernel
theorem d_P_when_41 : decode b_P_when 41 = .ok (.imul, 1) := by decide +kernel
theorem d_P_when_42 : decode b_P_when 42 = .ok (.iload_n 2, 1) := by decide +kernel
theorem d_P_when_43 : decode b_P_when 43 = .ok (.iadd, 1) := by decide +kernel
theorem d_P_when_44 : decode b_P_when 44 = .ok (.imul, 1) := by decide +kernel
theorem d_P_when_45 : decode b_P_when 45 = .ok (.iload_n 3, 1) := by decide +kernel
theorem d_P_when_46 : decode b_P_when 46 = .ok (.iadd, 1) := by decide +kernel
theorem d_P_when_47 : decode b_P_when 47 = .ok (.iaload, 1) := by decide +kernel
theorem d_P_when_48 : decode b_P_when 48 = .ok (.istore 4, 2) := by decide +kernel
theorem d_P_when_50 : decode b_P_when 50 = .ok (.iload 4, 2) := by decide +kernel
theorem d_P_when_52 : decode b_P_when 52 = .ok (.ifCond .ge 8, 3) := by decide +kernel
theorem d_P_when_55 : decode b_P_when 55 = .ok (.bipush (-3), 2) := by decide +kernel
theorem d_P_when_57 : decode b_P_when 57 = .ok (.goto 5, 3) := by decide +kernel
theorem d_P_when_60 : decode b_P_when 60 = .ok (.iload 4, 2) := by decide +kernel
theorem d_P_when_62 : decode b_P_when 62 = .ok (.ireturn, 1) := by decide +kernel
theorem d_P_run_0 : decode b_P_run 0 = .ok (.iload_n 2, 1) := by decide +kernel
theorem d_P_run_1 : decode b_P_run 1 = .ok (.ifCond .lt 10, 3) := by decide +kernel
theorem d_P_run_4 : decode b_P_run 4 = .ok (.iload_n 2, 1) := by decide +kernel
theorem d_P_run_5 : decode b_P_run 5 = .ok (.sipush 300, 3) := by decide +kernel
theorem d_P_run_8 : decode b_P_run 8 = .ok (.if_icmp .le 6, 3) := by decide +kernel
theorem d_P_run_11 : decode b_P_run 11 = .ok (.bipush (-2), 2) := by decide +kernel
theorem d_P_run_13 : decode b_P_run 13 = .ok (.ireturn, 1) := by decide +kernel
theorem d_P_run_14 : decode b_P_run 14 = .ok (.aload_n 0, 1) := by decide +kernel
theorem d_P_run_15 : decode b_P_run 15 = .ok (.getfield 44, 3) := by decide +kernel
theorem d_P_run_18 : decode b_P_run 18 = .ok (.ifCond .ne 6, 3) := by decide +kernel
theorem d_P_run_21 : decode b_P_run 21 = .ok (.bipush (-3), 2) := by decide +kernel
theorem d_P_run_23 : decode b_P_run 23 = .ok (.ireturn, 1) := by decide +kernel
theorem d_P_run_24 : decode b_P_run 24 = .ok (.aload_n 0, 1) := by decide +kernel
theorem d_P_run_25 : decode b_P_run 25 = .ok (.invokevirtual 123, 3) := by decide +kernel
theorem d_P_run_28 : decode b_P_run 28 = .ok (.aload_n 0, 1) := by decide +kernel
theorem d_P_run_29 : decode b_P_run 29 = .ok (.new 183, 3) := by decide +kernel
theorem d_P_run_32 : decode b_P_run 32 = .ok (.dup, 1) := by decide +kernel
theorem d_P_run_33 : decode b_P_run 33 = .ok (.aload_n 0, 1) := by decide +kernel
theorem d_P_run_34 : decode b_P_run 34 = .ok (.invokespecial 185, 3) := by decide +kernel
theorem d_P_run_37 : decode b_P_run 37 = .ok (.putfield 59, 3) := by decide +kernel
theorem d_P_run_40 : decode b_P_run 40 = .ok (.aload_n 0, 1) := by decide +kernel
theorem d_P_run_41 : decode b_P_run 41 = .ok (.getfield 59, 3) := by decide +kernel
theorem d_P_run_44 : decode b_P_run 44 = .ok (.iload_n 1, 1) := by decide +kernel
theorem d_P_run_45 : decode b_P_run 45 = .ok (.iload_n 2, 1) := by decide +kernel
theorem d_P_run_46 : decode b_P_run 46 = .ok (.invokevirtual 186, 3) := by decide +kernel
theorem d_P_run_49 : decode b_P_run 49 = .ok (.aload_n 0, 1) := by decide +kernel
theorem d_P_run_50 : decode b_P_run 50 = .ok (.getfield 59, 3) := by decide +kernel
theorem d_P_run_53 : decode b_P_run 53 = .ok (.getfield 190, 3) := by decide +kernel
theorem d_P_run_56 : decode b_P_run 56 = .ok (.ifCond .eq 7, 3) := by decide +kernel
theorem d_P_run_59 : decode b_P_run 59 = .ok (.iconst 1, 1) := by decide +kernel
theorem d_P_run_60 : decode b_P_run 60 = .ok (.goto 4, 3) := by decide +kernel
theorem d_P_run_63 : decode b_P_run 63 = .ok (.iconst 0, 1) := by decide +kernel
theorem d_P_run_64 : decode b_P_run 64 = .ok (.ireturn, 1) := by decide +kernel
theorem d_P_met_0 : decode b_P_met 0 = .ok (.aload_n 0, 1) := by decide +kernel
theorem d_P_met_1 : decode b_P_met 1 = .ok (.iload_n 1, 1) := by decide +kernel
theorem d_P_met_2 : decode b_P_met 2 = .ok (.invokevirtual 94, 3) := by decide +kernel
theorem d_P_met_5 : decode b_P_met 5 = .ok (.ifCond .eq 10, 3) := by decide +kernel
theorem d_P_met_8 : decode b_P_met 8 = .ok (.iload_n 2, 1) := by decide +kernel
theorem d_P_met_9 : decode b_P_met 9 = .ok (.invokestatic 85, 3) := by decide +kernel
theorem d_P_met_12 : decode b_P_met 12 = .ok (.ifCond .ne 5, 3) := by decide +kernel
theorem d_P_met_15 : decode b_P_met 15 = .ok (.iconst (-1), 1) := by decide +kernel
theorem d_P_met_16 : decode b_P_met 16 = .ok (.ireturn, 1) := by decide +kernel
theorem d_P_met_17 : decode b_P_met 17 = .ok (.aload_n 0, 1) := by decide +kernel
theorem d_P_met_18 : decode b_P_met 18 = .ok (.getfield 59, 3) := by decide +kernel
theorem d_P_met_21 : decode b_P_met 21 = .ok (.ifnonnull 7, 3) := by decide +kernel
theorem d_P_met_24 : decode b_P_met 24 = .ok (.iconst 0, 1) := by decide +kernel
theorem d_P_met_25 : decode b_P_met 25 = .ok (.goto 17, 3) := by decide +kernel
theorem d_P_met_28 : decode b_P_met 28 = .ok (.aload_n 0, 1) := by decide +kernel
theorem d_P_met_29 : decode b_P_met 29 = .ok (.getfield 59, 3) := by decide +kernel
theorem d_P_met_32 : decode b_P_met 32 = .ok (.getfield 193, 3) := by decide +kernel
theorem d_P_met_35 : decode b_P_met 35 = .ok (.bipush 6, 2) := by decide +kernel
theorem d_P_met_37 : decode b_P_met 37 = .ok (.iload_n 1, 1) := by decide +kernel
theorem d_P_met_38 : decode b_P_met 38 = .ok (.imul, 1) := by decide +kernel
theorem d_P_met_39 : decode b_P_met 39 = .ok (.iload_n 2, 1) := by decide +kernel
theorem d_P_met_40 : decode b_P_met 40 = .ok (.iadd, 1) := by decide +kernel
theorem d_P_met_41 : decode b_P_met 41 = .ok (.iaload, 1) := by decide +kernel
theorem d_P_met_42 : decode b_P_met 42 = .ok (.ireturn, 1) := by decide +kernel
theorem d_P_ran_0 : decode b_P_ran 0 = .ok (.iload_n 1, 1) := by decide +kernel
theorem d_P_ran_1 : decode b_P_ran 1 = .ok (.ifCond .lt 8, 3) := by decide +kernel
theorem d_P_ran_4 : decode b_P_ran 4 = .ok (.iload_n 1, 1) := by decide +kernel
theorem d_P_ran_5 : decode b_P_ran 5 = .ok (.iconst 2, 1) := by decide +kernel
theorem d_P_ran_6 : decode b_P_ran 6 = .ok (.if_icmp .le 6, 3) := by decide +kernel
theorem d_P_ran_9 : decode b_P_ran 9 = .ok (.bipush (-2), 2) := by decide +kernel
theorem d_P_ran_11 : decode b_P_ran 11 = .ok (.ireturn, 1) := by decide +kernel
theorem d_P_ran_12 : decode b_P_ran 12 = .ok (.aload_n 0, 1) := by decide +kernel
theorem d_P_ran_13 : decode b_P_ran 13 = .ok (.getfield 59, 3) := by decide +kernel
theorem d_P_ran_16 : decode b_P_ran 16 = .ok (.ifnonnull 5, 3) := by decide +kernel
theorem d_P_ran_19 : decode b_P_ran 19 = .ok (.iconst 0, 1) := by decide +kernel
theorem d_P_ran_20 : decode b_P_ran 20 = .ok (.ireturn, 1) := by decide +kernel
theorem d_P_ran_21 : decode b_P_ran 21 = .ok (.iload_n 1, 1) := by decide +kernel
theorem d_P_ran_22 : decode b_P_ran 22 = .ok (.ifCond .ne 18, 3) := by decide +kernel
theorem d_P_ran_25 : decode b_P_ran 25 = .ok (.aload_n 0, 1) := by decide +kernel
theorem d_P_ran_26 : decode b_P_ran 26 = .ok (.getfield 59, 3) := by decide +kernel
theorem d_P_ran_29 : decode b_P_ran 29 = .ok (.getfield 196, 3) := by decide +kernel
theorem d_P_ran_32 : decode b_P_ran 32 = .ok (.invokeinterface 101 1, 5) := by decide +kernel
theorem d_P_ran_37 : decode b_P_ran 37 = .ok (.goto 28, 3) := by decide +kernel
theorem d_P_ran_40 : decode b_P_ran 40 = .ok (.iload_n 1, 1) := by decide +kernel
theorem d_P_ran_41 : decode b_P_ran 41 = .ok (.iconst 1, 1) := by decide +kernel
theorem d_P_ran_42 : decode b_P_ran 42 = .ok (.if_icmp .ne 16, 3) := by decide +kernel
theorem d_P_ran_45 : decode b_P_ran 45 = .ok (.aload_n 0, 1) := by decide +kernel
theorem d_P_ran_46 : decode b_P_ran 46 = .ok (.getfield 59, 3) := by decide +kernel
theorem d_P_ran_49 : decode b_P_ran 49 = .ok (.getfield 199, 3) := by decide +kernel
theorem d_P_ran_52 : decode b_P_ran 52 = .ok (.invokevirtual 203, 3) := by decide +kernel
theorem d_P_ran_55 : decode b_P_ran 55 = .ok (.goto 10, 3) := by decide +kernel
theorem d_P_ran_58 : decode b_P_ran 58 = .ok (.aload_n 0, 1) := by decide +kernel
theorem d_P_ran_59 : decode b_P_ran 59 = .ok (.getfield 59, 3) := by decide +kernel
theorem d_P_ran_62 : decode b_P_ran 62 = .ok (.getfield 206, 3) := by decide +kernel
theorem d_P_ran_65 : decode b_P_ran 65 = .ok (.ireturn, 1) := by decide +kernel
