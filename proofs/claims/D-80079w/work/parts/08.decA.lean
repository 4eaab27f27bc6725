theorem d_AL_init_0 : decode b_AL_init 0 = .ok (.aload_n 0, 1) := by decide +kernel
theorem d_AL_init_1 : decode b_AL_init 1 = .ok (.invokespecial 1, 3) := by decide +kernel
theorem d_AL_init_4 : decode b_AL_init 4 = .ok (.aload_n 0, 1) := by decide +kernel
theorem d_AL_init_5 : decode b_AL_init 5 = .ok (.getstatic 39, 3) := by decide +kernel
theorem d_AL_init_8 : decode b_AL_init 8 = .ok (.putfield 9, 3) := by decide +kernel
theorem d_AL_init_11 : decode b_AL_init 11 = .ok (.return_, 1) := by decide +kernel
theorem d_AbL_init_0 : decode b_AbL_init 0 = .ok (.aload_n 0, 1) := by decide +kernel
theorem d_AbL_init_1 : decode b_AbL_init 1 = .ok (.invokespecial 1, 3) := by decide +kernel
theorem d_AbL_init_4 : decode b_AbL_init 4 = .ok (.aload_n 0, 1) := by decide +kernel
theorem d_AbL_init_5 : decode b_AbL_init 5 = .ok (.iconst 0, 1) := by decide +kernel
theorem d_AbL_init_6 : decode b_AbL_init 6 = .ok (.putfield 7, 3) := by decide +kernel
theorem d_AbL_init_9 : decode b_AbL_init 9 = .ok (.return_, 1) := by decide +kernel
theorem d_AbC_init_0 : decode b_AbC_init 0 = .ok (.aload_n 0, 1) := by decide +kernel
theorem d_AbC_init_1 : decode b_AbC_init 1 = .ok (.invokespecial 1, 3) := by decide +kernel
theorem d_AbC_init_4 : decode b_AbC_init 4 = .ok (.return_, 1) := by decide +kernel
theorem d_Bo_init_0 : decode b_Bo_init 0 = .ok (.aload_n 0, 1) := by decide +kernel
theorem d_Bo_init_1 : decode b_Bo_init 1 = .ok (.invokespecial 3, 3) := by decide +kernel
theorem d_Bo_init_4 : decode b_Bo_init 4 = .ok (.aload_n 0, 1) := by decide +kernel
theorem d_Bo_init_5 : decode b_Bo_init 5 = .ok (.new 9, 3) := by decide +kernel
theorem d_Bo_init_8 : decode b_Bo_init 8 = .ok (.dup, 1) := by decide +kernel
theorem d_Bo_init_9 : decode b_Bo_init 9 = .ok (.invokespecial 11, 3) := by decide +kernel
theorem d_Bo_init_12 : decode b_Bo_init 12 = .ok (.putfield 12, 3) := by decide +kernel
theorem d_Bo_init_15 : decode b_Bo_init 15 = .ok (.iconst 0, 1) := by decide +kernel
theorem d_Bo_init_16 : decode b_Bo_init 16 = .ok (.istore_n 1, 1) := by decide +kernel
theorem d_Bo_init_17 : decode b_Bo_init 17 = .ok (.iload_n 1, 1) := by decide +kernel
theorem d_Bo_init_18 : decode b_Bo_init 18 = .ok (.bipush 6, 2) := by decide +kernel
theorem d_Bo_init_20 : decode b_Bo_init 20 = .ok (.if_icmp .ge 26, 3) := by decide +kernel
theorem d_Bo_init_23 : decode b_Bo_init 23 = .ok (.aload_n 0, 1) := by decide +kernel
theorem d_Bo_init_24 : decode b_Bo_init 24 = .ok (.getfield 12, 3) := by decide +kernel
theorem d_Bo_init_27 : decode b_Bo_init 27 = .ok (.new 18, 3) := by decide +kernel
theorem d_Bo_init_30 : decode b_Bo_init 30 = .ok (.dup, 1) := by decide +kernel
theorem d_Bo_init_31 : decode b_Bo_init 31 = .ok (.invokespecial 20, 3) := by decide +kernel
theorem d_Bo_init_34 : decode b_Bo_init 34 = .ok (.invokeinterface 21 2, 5) := by decide +kernel
theorem d_Bo_init_39 : decode b_Bo_init 39 = .ok (.pop, 1) := by decide +kernel
theorem d_Bo_init_40 : decode b_Bo_init 40 = .ok (.iinc 1 1, 3) := by decide +kernel
theorem d_Bo_init_43 : decode b_Bo_init 43 = .ok (.goto (-26), 3) := by decide +kernel
theorem d_Bo_init_46 : decode b_Bo_init 46 = .ok (.return_, 1) := by decide +kernel
theorem d_Ce_init_0 : decode b_Ce_init 0 = .ok (.aload_n 0, 1) := by decide +kernel
theorem d_Ce_init_1 : decode b_Ce_init 1 = .ok (.invokespecial 1, 3) := by decide +kernel
theorem d_Ce_init_4 : decode b_Ce_init 4 = .ok (.return_, 1) := by decide +kernel
theorem d_AL_add0_0 : decode b_AL_add0 0 = .ok (.aload_n 0, 1) := by decide +kernel
theorem d_AL_add0_1 : decode b_AL_add0 1 = .ok (.dup, 1) := by decide +kernel
theorem d_AL_add0_2 : decode b_AL_add0 2 = .ok (.getfield 63, 3) := by decide +kernel
theorem d_AL_add0_5 : decode b_AL_add0 5 = .ok (.iconst 1, 1) := by decide +kernel
theorem d_AL_add0_6 : decode b_AL_add0 6 = .ok (.iadd, 1) := by decide +kernel
theorem d_AL_add0_7 : decode b_AL_add0 7 = .ok (.putfield 63, 3) := by decide +kernel
theorem d_AL_add0_10 : decode b_AL_add0 10 = .ok (.aload_n 0, 1) := by decide +kernel
theorem d_AL_add0_11 : decode b_AL_add0 11 = .ok (.aload_n 1, 1) := by decide +kernel
theorem d_AL_add0_12 : decode b_AL_add0 12 = .ok (.aload_n 0, 1) := by decide +kernel
theorem d_AL_add0_13 : decode b_AL_add0 13 = .ok (.getfield 9, 3) := by decide +kernel
theorem d_AL_add0_16 : decode b_AL_add0 16 = .ok (.aload_n 0, 1) := by decide +kernel
theorem d_AL_add0_17 : decode b_AL_add0 17 = .ok (.getfield 48, 3) := by decide +kernel
theorem d_AL_add0_20 : decode b_AL_add0 20 = .ok (.invokevirtual 131, 3) := by decide +kernel
theorem d_AL_add0_23 : decode b_AL_add0 23 = .ok (.iconst 1, 1) := by decide +kernel
theorem d_AL_add0_24 : decode b_AL_add0 24 = .ok (.ireturn, 1) := by decide +kernel
theorem d_AL_add1_0 : decode b_AL_add1 0 = .ok (.iload_n 3, 1) := by decide +kernel
theorem d_AL_add1_1 : decode b_AL_add1 1 = .ok (.aload_n 2, 1) := by decide +kernel
theorem d_AL_add1_2 : decode b_AL_add1 2 = .ok (.arraylength, 1) := by decide +kernel
theorem d_AL_add1_3 : decode b_AL_add1 3 = .ok (.if_icmp .ne 8, 3) := by decide +kernel
theorem d_AL_add1_6 : decode b_AL_add1 6 = .ok (.aload_n 0, 1) := by decide +kernel
theorem d_AL_add1_7 : decode b_AL_add1 7 = .ok (.invokevirtual 129, 3) := by decide +kernel
theorem d_AL_add1_10 : decode b_AL_add1 10 = .ok (.astore_n 2, 1) := by decide +kernel
theorem d_AL_add1_11 : decode b_AL_add1 11 = .ok (.aload_n 2, 1) := by decide +kernel
theorem d_AL_add1_12 : decode b_AL_add1 12 = .ok (.iload_n 3, 1) := by decide +kernel
theorem d_AL_add1_13 : decode b_AL_add1 13 = .ok (.aload_n 1, 1) := by decide +kernel
theorem d_AL_add1_14 : decode b_AL_add1 14 = .ok (.aastore, 1) := by decide +kernel
theorem d_AL_add1_15 : decode b_AL_add1 15 = .ok (.aload_n 0, 1) := by decide +kernel
theorem d_AL_add1_16 : decode b_AL_add1 16 = .ok (.iload_n 3, 1) := by decide +kernel
theorem d_AL_add1_17 : decode b_AL_add1 17 = .ok (.iconst 1, 1) := by decide +kernel
theorem d_AL_add1_18 : decode b_AL_add1 18 = .ok (.iadd, 1) := by decide +kernel
theorem d_AL_add1_19 : decode b_AL_add1 19 = .ok (.putfield 48, 3) := by decide +kernel
theorem d_AL_add1_22 : decode b_AL_add1 22 = .ok (.return_, 1) := by decide +kernel
theorem d_AL_grow0_0 : decode b_AL_grow0 0 = .ok (.aload_n 0, 1) := by decide +kernel
theorem d_AL_grow0_1 : decode b_AL_grow0 1 = .ok (.aload_n 0, 1) := by decide +kernel
theorem d_AL_grow0_2 : decode b_AL_grow0 2 = .ok (.getfield 48, 3) := by decide +kernel
theorem d_AL_grow0_5 : decode b_AL_grow0 5 = .ok (.iconst 1, 1) := by decide +kernel
theorem d_AL_grow0_6 : decode b_AL_grow0 6 = .ok (.iadd, 1) := by decide +kernel
theorem d_AL_grow0_7 : decode b_AL_grow0 7 = .ok (.invokevirtual 69, 3) := by decide +kernel
theorem d_AL_grow0_10 : decode b_AL_grow0 10 = .ok (.areturn, 1) := by decide +kernel
theorem d_AL_grow1_0 : decode b_AL_grow1 0 = .ok (.aload_n 0, 1) := by decide +kernel
theorem d_AL_grow1_1 : decode b_AL_grow1 1 = .ok (.getfield 9, 3) := by decide +kernel
theorem d_AL_grow1_4 : decode b_AL_grow1 4 = .ok (.arraylength, 1) := by decide +kernel
theorem d_AL_grow1_5 : decode b_AL_grow1 5 = .ok (.istore_n 2, 1) := by decide +kernel
theorem d_AL_grow1_6 : decode b_AL_grow1 6 = .ok (.iload_n 2, 1) := by decide +kernel
theorem d_AL_grow1_7 : decode b_AL_grow1 7 = .ok (.ifCond .gt 13, 3) := by decide +kernel
theorem d_AL_grow1_10 : decode b_AL_grow1 10 = .ok (.aload_n 0, 1) := by decide +kernel
theorem d_AL_grow1_11 : decode b_AL_grow1 11 = .ok (.getfield 9, 3) := by decide +kernel
theorem d_AL_grow1_14 : decode b_AL_grow1 14 = .ok (.getstatic 39, 3) := by decide +kernel
theorem d_AL_grow1_17 : decode b_AL_grow1 17 = .ok (.if_acmp .eq 28, 3) := by decide +kernel
theorem d_AL_grow1_20 : decode b_AL_grow1 20 = .ok (.iload_n 2, 1) := by decide +kernel
theorem d_AL_grow1_21 : decode b_AL_grow1 21 = .ok (.iload_n 1, 1) := by decide +kernel
theorem d_AL_grow1_22 : decode b_AL_grow1 22 = .ok (.iload_n 2, 1) := by decide +kernel
theorem d_AL_grow1_23 : decode b_AL_grow1 23 = .ok (.isub, 1) := by decide +kernel
theorem d_AL_grow1_24 : decode b_AL_grow1 24 = .ok (.iload_n 2, 1) := by decide +kernel
theorem d_AL_grow1_25 : decode b_AL_grow1 25 = .ok (.iconst 1, 1) := by decide +kernel
theorem d_AL_grow1_26 : decode b_AL_grow1 26 = .ok (.ishr, 1) := by decide +kernel
theorem d_AL_grow1_27 : decode b_AL_grow1 27 = .ok (.invokestatic 73, 3) := by decide +kernel
theorem d_AL_grow1_30 : decode b_AL_grow1 30 = .ok (.istore_n 3, 1) := by decide +kernel
theorem d_AL_grow1_31 : decode b_AL_grow1 31 = .ok (.aload_n 0, 1) := by decide +kernel
theorem d_AL_grow1_32 : decode b_AL_grow1 32 = .ok (.aload_n 0, 1) := by decide +kernel
theorem d_AL_grow1_33 : decode b_AL_grow1 33 = .ok (.getfield 9, 3) := by decide +kernel
theorem d_AL_grow1_36 : decode b_AL_grow1 36 = .ok (.iload_n 3, 1) := by decide +kernel
theorem d_AL_grow1_37 : decode b_AL_grow1 37 = .ok (.invokestatic 66, 3) := by decide +kernel
theorem d_AL_grow1_40 : decode b_AL_grow1 40 = .ok (.dup_x1, 1) := by decide +kernel
theorem d_AL_grow1_41 : decode b_AL_grow1 41 = .ok (.putfield 9, 3) := by decide +kernel
theorem d_AL_grow1_44 : decode b_AL_grow1 44 = .ok (.areturn, 1) := by decide +kernel
theorem d_AL_grow1_45 : decode b_AL_grow1 45 = .ok (.aload_n 0, 1) := by decide +kernel
theorem d_AL_grow1_46 : decode b_AL_grow1 46 = .ok (.bipush 10, 2) := by decide +kernel
theorem d_AL_grow1_48 : decode b_AL_grow1 48 = .ok (.iload_n 1, 1) := by decide +kernel
theorem d_AL_grow1_49 : decode b_AL_grow1 49 = .ok (.invokestatic 79, 3) := by decide +kernel
theorem d_AL_grow1_52 : decode b_AL_grow1 52 = .ok (.anewarray 7, 3) := by decide +kernel
theorem d_AL_grow1_55 : decode b_AL_grow1 55 = .ok (.dup_x1, 1) := by decide +kernel
theorem d_AL_grow1_56 : decode b_AL_grow1 56 = .ok (.putfield 9, 3) := by decide +kernel
theorem d_AL_grow1_59 : decode b_AL_grow1 59 = .ok (.areturn, 1) := by decide +kernel
theorem d_ArS_newLength_0 : decode b_ArS_newLength 0 = .ok (.iload_n 0, 1) := by decide +kernel
theorem d_ArS_newLength_1 : decode b_ArS_newLength 1 = .ok (.iload_n 1, 1) := by decide +kernel
theorem d_ArS_newLength_2 : decode b_ArS_newLength 2 = .ok (.iload_n 2, 1) := by decide +kernel
theorem d_ArS_newLength_3 : decode b_ArS_newLength 3 = .ok (.invokestatic 194, 3) := by decide +kernel
theorem d_ArS_newLength_6 : decode b_ArS_newLength 6 = .ok (.iadd, 1) := by decide +kernel
theorem d_ArS_newLength_7 : decode b_ArS_newLength 7 = .ok (.istore_n 3, 1) := by decide +kernel
theorem d_ArS_newLength_8 : decode b_ArS_newLength 8 = .ok (.iconst 0, 1) := by decide +kernel
theorem d_ArS_newLength_9 : decode b_ArS_newLength 9 = .ok (.iload_n 3, 1) := by decide +kernel
theorem d_ArS_newLength_10 : decode b_ArS_newLength 10 = .ok (.if_icmp .ge 11, 3) := by decide +kernel
theorem d_ArS_newLength_13 : decode b_ArS_newLength 13 = .ok (.iload_n 3, 1) := by decide +kernel
theorem d_ArS_newLength_14 : decode b_ArS_newLength 14 = .ok (.ldc 200, 2) := by decide +kernel
theorem d_ArS_newLength_16 : decode b_ArS_newLength 16 = .ok (.if_icmp .gt 5, 3) := by decide +kernel
theorem d_ArS_newLength_19 : decode b_ArS_newLength 19 = .ok (.iload_n 3, 1) := by decide +kernel
theorem d_ArS_newLength_20 : decode b_ArS_newLength 20 = .ok (.ireturn, 1) := by decide +kernel
theorem d_ArS_newLength_21 : decode b_ArS_newLength 21 = .ok (.iload_n 0, 1) := by decide +kernel
theorem d_ArS_newLength_22 : decode b_ArS_newLength 22 = .ok (.iload_n 1, 1) := by decide +kernel
theorem d_ArS_newLength_23 : decode b_ArS_newLength 23 = .ok (.invokestatic 201, 3) := by decide +kernel
theorem d_ArS_newLength_26 : decode b_ArS_newLength 26 = .ok (.ireturn, 1) := by decide +kernel
theorem d_Ars_copyOf0_0 : decode b_Ars_copyOf0 0 = .ok (.aload_n 0, 1) := by decide +kernel
theorem d_Ars_copyOf0_1 : decode b_Ars_copyOf0 1 = .ok (.iload_n 1, 1) := by decide +kernel
theorem d_Ars_copyOf0_2 : decode b_Ars_copyOf0 2 = .ok (.aload_n 0, 1) := by decide +kernel
theorem d_Ars_copyOf0_3 : decode b_Ars_copyOf0 3 = .ok (.invokevirtual 86, 3) := by decide +kernel
theorem d_Ars_copyOf0_6 : decode b_Ars_copyOf0 6 = .ok (.invokestatic 300, 3) := by decide +kernel
theorem d_Ars_copyOf0_9 : decode b_Ars_copyOf0 9 = .ok (.areturn, 1) := by decide +kernel
theorem d_Ars_copyOf1_0 : decode b_Ars_copyOf1 0 = .ok (.aload_n 2, 1) := by decide +kernel
theorem d_Ars_copyOf1_1 : decode b_Ars_copyOf1 1 = .ok (.ldc 110, 2) := by decide +kernel
theorem d_Ars_copyOf1_3 : decode b_Ars_copyOf1 3 = .ok (.if_acmp .ne 10, 3) := by decide +kernel
theorem d_Ars_copyOf1_6 : decode b_Ars_copyOf1 6 = .ok (.iload_n 1, 1) := by decide +kernel
theorem d_Ars_copyOf1_7 : decode b_Ars_copyOf1 7 = .ok (.anewarray 2, 3) := by decide +kernel
theorem d_Ars_copyOf1_10 : decode b_Ars_copyOf1 10 = .ok (.goto 14, 3) := by decide +kernel
theorem d_Ars_copyOf1_13 : decode b_Ars_copyOf1 13 = .ok (.aload_n 2, 1) := by decide +kernel
theorem d_Ars_copyOf1_14 : decode b_Ars_copyOf1 14 = .ok (.invokevirtual 90, 3) := by decide +kernel
theorem d_Ars_copyOf1_17 : decode b_Ars_copyOf1 17 = .ok (.iload_n 1, 1) := by decide +kernel
theorem d_Ars_copyOf1_18 : decode b_Ars_copyOf1 18 = .ok (.invokestatic 95, 3) := by decide +kernel
theorem d_Ars_copyOf1_21 : decode b_Ars_copyOf1 21 = .ok (.checkcast 110, 3) := by decide +kernel
theorem d_Ars_copyOf1_24 : decode b_Ars_copyOf1 24 = .ok (.astore_n 3, 1) := by decide +kernel
theorem d_Ars_copyOf1_25 : decode b_Ars_copyOf1 25 = .ok (.aload_n 0, 1) := by decide +kernel
theorem d_Ars_copyOf1_26 : decode b_Ars_copyOf1 26 = .ok (.iconst 0, 1) := by decide +kernel
theorem d_Ars_copyOf1_27 : decode b_Ars_copyOf1 27 = .ok (.aload_n 3, 1) := by decide +kernel
theorem d_Ars_copyOf1_28 : decode b_Ars_copyOf1 28 = .ok (.iconst 0, 1) := by decide +kernel
theorem d_Ars_copyOf1_29 : decode b_Ars_copyOf1 29 = .ok (.aload_n 0, 1) := by decide +kernel
theorem d_Ars_copyOf1_30 : decode b_Ars_copyOf1 30 = .ok (.arraylength, 1) := by decide +kernel
theorem d_Ars_copyOf1_31 : decode b_Ars_copyOf1 31 = .ok (.iload_n 1, 1) := by decide +kernel
theorem d_Ars_copyOf1_32 : decode b_Ars_copyOf1 32 = .ok (.invokestatic 304, 3) := by decide +kernel
theorem d_Ars_copyOf1_35 : decode b_Ars_copyOf1 35 = .ok (.invokestatic 150, 3) := by decide +kernel
theorem d_Ars_copyOf1_38 : decode b_Ars_copyOf1 38 = .ok (.aload_n 3, 1) := by decide +kernel
theorem d_Ars_copyOf1_39 : decode b_Ars_copyOf1 39 = .ok (.areturn, 1) := by decide +kernel
theorem d_AL_size_0 : decode b_AL_size 0 = .ok (.aload_n 0, 1) := by decide +kernel
theorem d_AL_size_1 : decode b_AL_size 1 = .ok (.getfield 48, 3) := by decide +kernel
theorem d_AL_size_4 : decode b_AL_size 4 = .ok (.ireturn, 1) := by decide +kernel
theorem d_St_init_0 : decode b_St_init 0 = .ok (.aload_n 0, 1) := by decide +kernel
theorem d_St_init_1 : decode b_St_init 1 = .ok (.invokespecial 1, 3) := by decide +kernel
theorem d_St_init_4 : decode b_St_init 4 = .ok (.aload_n 0, 1) := by decide +kernel
theorem d_St_init_5 : decode b_St_init 5 = .ok (.iconst (-1), 1) := by decide +kernel
theorem d_St_init_6 : decode b_St_init 6 = .ok (.putfield 7, 3) := by decide +kernel
theorem d_St_init_9 : decode b_St_init 9 = .ok (.aload_n 0, 1) := by decide +kernel
theorem d_St_init_10 : decode b_St_init 10 = .ok (.iload_n 1, 1) := by decide +kernel
theorem d_St_init_11 : decode b_St_init 11 = .ok (.putfield 13, 3) := by decide +kernel
theorem d_St_init_14 : decode b_St_init 14 = .ok (.aload_n 0, 1) := by decide +kernel
theorem d_St_init_15 : decode b_St_init 15 = .ok (.iload_n 2, 1) := by decide +kernel
theorem d_St_init_16 : decode b_St_init 16 = .ok (.putfield 16, 3) := by decide +kernel
theorem d_St_init_19 : decode b_St_init 19 = .ok (.aload_n 0, 1) := by decide +kernel
theorem d_St_init_20 : decode b_St_init 20 = .ok (.iload_n 3, 1) := by decide +kernel
theorem d_St_init_21 : decode b_St_init 21 = .ok (.putfield 19, 3) := by decide +kernel
theorem d_St_init_24 : decode b_St_init 24 = .ok (.aload_n 0, 1) := by decide +kernel
theorem d_St_init_25 : decode b_St_init 25 = .ok (.iload 4, 2) := by decide +kernel
theorem d_St_init_27 : decode b_St_init 27 = .ok (.putfield 22, 3) := by decide +kernel
theorem d_St_init_30 : decode b_St_init 30 = .ok (.aload_n 0, 1) := by decide +kernel
theorem d_St_init_31 : decode b_St_init 31 = .ok (.iload 5, 2) := by decide +kernel
theorem d_St_init_33 : decode b_St_init 33 = .ok (.putfield 25, 3) := by decide +kernel
theorem d_St_init_36 : decode b_St_init 36 = .ok (.aload_n 0, 1) := by decide +kernel
theorem d_St_init_37 : decode b_St_init 37 = .ok (.iload 6, 2) := by decide +kernel
theorem d_St_init_39 : decode b_St_init 39 = .ok (.putfield 28, 3) := by decide +kernel
theorem d_St_init_42 : decode b_St_init 42 = .ok (.aload_n 0, 1) := by decide +kernel
theorem d_St_init_43 : decode b_St_init 43 = .ok (.iload 7, 2) := by decide +kernel
theorem d_St_init_45 : decode b_St_init 45 = .ok (.putfield 31, 3) := by decide +kernel
theorem d_St_init_48 : decode b_St_init 48 = .ok (.return_, 1) := by decide +kernel
theorem d_AL_get_0 : decode b_AL_get 0 = .ok (.iload_n 1, 1) := by decide +kernel
theorem d_AL_get_1 : decode b_AL_get 1 = .ok (.aload_n 0, 1) := by decide +kernel
theorem d_AL_get_2 : decode b_AL_get 2 = .ok (.getfield 48, 3) := by decide +kernel
theorem d_AL_get_5 : decode b_AL_get 5 = .ok (.invokestatic 118, 3) := by decide +kernel
theorem d_AL_get_8 : decode b_AL_get 8 = .ok (.pop, 1) := by decide +kernel
theorem d_AL_get_9 : decode b_AL_get 9 = .ok (.aload_n 0, 1) := by decide +kernel
theorem d_AL_get_10 : decode b_AL_get 10 = .ok (.iload_n 1, 1) := by decide +kernel
theorem d_AL_get_11 : decode b_AL_get 11 = .ok (.invokevirtual 123, 3) := by decide +kernel
theorem d_AL_get_14 : decode b_AL_get 14 = .ok (.areturn, 1) := by decide +kernel
theorem d_Objs_checkIndex_0 : decode b_Objs_checkIndex 0 = .ok (.iload_n 0, 1) := by decide +kernel
theorem d_Objs_checkIndex_1 : decode b_Objs_checkIndex 1 = .ok (.iload_n 1, 1) := by decide +kernel
theorem d_Objs_checkIndex_2 : decode b_Objs_checkIndex 2 = .ok (.aconst_null, 1) := by decide +kernel
theorem d_Objs_checkIndex_3 : decode b_Objs_checkIndex 3 = .ok (.invokestatic 105, 3) := by decide +kernel
theorem d_Objs_checkIndex_6 : decode b_Objs_checkIndex 6 = .ok (.ireturn, 1) := by decide +kernel
theorem d_Prc_checkIndex_0 : decode b_Prc_checkIndex 0 = .ok (.iload_n 0, 1) := by decide +kernel
theorem d_Prc_checkIndex_1 : decode b_Prc_checkIndex 1 = .ok (.ifCond .lt 8, 3) := by decide +kernel
theorem d_Prc_checkIndex_4 : decode b_Prc_checkIndex 4 = .ok (.iload_n 0, 1) := by decide +kernel
theorem d_Prc_checkIndex_5 : decode b_Prc_checkIndex 5 = .ok (.iload_n 1, 1) := by decide +kernel
theorem d_Prc_checkIndex_6 : decode b_Prc_checkIndex 6 = .ok (.if_icmp .lt 10, 3) := by decide +kernel
theorem d_Prc_checkIndex_9 : decode b_Prc_checkIndex 9 = .ok (.aload_n 2, 1) := by decide +kernel
theorem d_Prc_checkIndex_10 : decode b_Prc_checkIndex 10 = .ok (.iload_n 0, 1) := by decide +kernel
theorem d_Prc_checkIndex_11 : decode b_Prc_checkIndex 11 = .ok (.iload_n 1, 1) := by decide +kernel
theorem d_Prc_checkIndex_12 : decode b_Prc_checkIndex 12 = .ok (.invokestatic 95, 3) := by decide +kernel
theorem d_Prc_checkIndex_16 : decode b_Prc_checkIndex 16 = .ok (.iload_n 0, 1) := by decide +kernel
theorem d_Prc_checkIndex_17 : decode b_Prc_checkIndex 17 = .ok (.ireturn, 1) := by decide +kernel
theorem d_AL_elementData_0 : decode b_AL_elementData 0 = .ok (.aload_n 0, 1) := by decide +kernel
theorem d_AL_elementData_1 : decode b_AL_elementData 1 = .ok (.getfield 9, 3) := by decide +kernel
theorem d_AL_elementData_4 : decode b_AL_elementData 4 = .ok (.iload_n 1, 1) := by decide +kernel
theorem d_AL_elementData_5 : decode b_AL_elementData 5 = .ok (.aaload, 1) := by decide +kernel
theorem d_AL_elementData_6 : decode b_AL_elementData 6 = .ok (.areturn, 1) := by decide +kernel
theorem d_AL_clear_0 : decode b_AL_clear 0 = .ok (.aload_n 0, 1) := by decide +kernel
theorem d_AL_clear_1 : decode b_AL_clear 1 = .ok (.dup, 1) := by decide +kernel
theorem d_AL_clear_2 : decode b_AL_clear 2 = .ok (.getfield 63, 3) := by decide +kernel
theorem d_AL_clear_5 : decode b_AL_clear 5 = .ok (.iconst 1, 1) := by decide +kernel
theorem d_AL_clear_6 : decode b_AL_clear 6 = .ok (.iadd, 1) := by decide +kernel
theorem d_AL_clear_7 : decode b_AL_clear 7 = .ok (.putfield 63, 3) := by decide +kernel
theorem d_AL_clear_10 : decode b_AL_clear 10 = .ok (.aload_n 0, 1) := by decide +kernel
theorem d_AL_clear_11 : decode b_AL_clear 11 = .ok (.getfield 9, 3) := by decide +kernel
theorem d_AL_clear_14 : decode b_AL_clear 14 = .ok (.astore_n 1, 1) := by decide +kernel
theorem d_AL_clear_15 : decode b_AL_clear 15 = .ok (.aload_n 0, 1) := by decide +kernel
theorem d_AL_clear_16 : decode b_AL_clear 16 = .ok (.getfield 48, 3) := by decide +kernel
theorem d_AL_clear_19 : decode b_AL_clear 19 = .ok (.istore_n 2, 1) := by decide +kernel
theorem d_AL_clear_20 : decode b_AL_clear 20 = .ok (.aload_n 0, 1) := by decide +kernel
theorem d_AL_clear_21 : decode b_AL_clear 21 = .ok (.iconst 0, 1) := by decide +kernel
theorem d_AL_clear_22 : decode b_AL_clear 22 = .ok (.dup_x1, 1) := by decide +kernel
theorem d_AL_clear_23 : decode b_AL_clear 23 = .ok (.putfield 48, 3) := by decide +kernel
theorem d_AL_clear_26 : decode b_AL_clear 26 = .ok (.istore_n 3, 1) := by decide +kernel
theorem d_AL_clear_27 : decode b_AL_clear 27 = .ok (.iload_n 3, 1) := by decide +kernel
theorem d_AL_clear_28 : decode b_AL_clear 28 = .ok (.iload_n 2, 1) := by decide +kernel
theorem d_AL_clear_29 : decode b_AL_clear 29 = .ok (.if_icmp .ge 13, 3) := by decide +kernel
theorem d_AL_clear_32 : decode b_AL_clear 32 = .ok (.aload_n 1, 1) := by decide +kernel
theorem d_AL_clear_33 : decode b_AL_clear 33 = .ok (.iload_n 3, 1) := by decide +kernel
theorem d_AL_clear_34 : decode b_AL_clear 34 = .ok (.aconst_null, 1) := by decide +kernel
theorem d_AL_clear_35 : decode b_AL_clear 35 = .ok (.aastore, 1) := by decide +kernel
theorem d_AL_clear_36 : decode b_AL_clear 36 = .ok (.iinc 3 1, 3) := by decide +kernel
theorem d_AL_clear_39 : decode b_AL_clear 39 = .ok (.goto (-12), 3) := by decide +kernel
theorem d_AL_clear_42 : decode b_AL_clear 42 = .ok (.return_, 1) := by decide +kernel
theorem d_Bo_name_0 : decode b_Bo_name 0 = .ok (.aload_n 0, 1) := by decide +kernel
theorem d_Bo_name_1 : decode b_Bo_name 1 = .ok (.getfield 12, 3) := by decide +kernel
theorem d_Bo_name_4 : decode b_Bo_name 4 = .ok (.iload_n 1, 1) := by decide +kernel
theorem d_Bo_name_5 : decode b_Bo_name 5 = .ok (.invokeinterface 27 2, 5) := by decide +kernel
theorem d_Bo_name_10 : decode b_Bo_name 10 = .ok (.checkcast 18, 3) := by decide +kernel
theorem d_Bo_name_13 : decode b_Bo_name 13 = .ok (.areturn, 1) := by decide +kernel
theorem d_Ce_clear_0 : decode b_Ce_clear 0 = .ok (.aload_n 0, 1) := by decide +kernel
theorem d_Ce_clear_1 : decode b_Ce_clear 1 = .ok (.iconst 0, 1) := by decide +kernel
theorem d_Ce_clear_2 : decode b_Ce_clear 2 = .ok (.putfield 13, 3) := by decide +kernel
theorem d_Ce_clear_5 : decode b_Ce_clear 5 = .ok (.aload_n 0, 1) := by decide +kernel
theorem d_Ce_clear_6 : decode b_Ce_clear 6 = .ok (.iconst 0, 1) := by decide +kernel
theorem d_Ce_clear_7 : decode b_Ce_clear 7 = .ok (.putfield 16, 3) := by decide +kernel
theorem d_Ce_clear_10 : decode b_Ce_clear 10 = .ok (.aload_n 0, 1) := by decide +kernel
theorem d_Ce_clear_11 : decode b_Ce_clear 11 = .ok (.iconst 0, 1) := by decide +kernel
theorem d_Ce_clear_12 : decode b_Ce_clear 12 = .ok (.putfield 7, 3) := by decide +kernel
theorem d_Ce_clear_15 : decode b_Ce_clear 15 = .ok (.return_, 1) := by decide +kernel
theorem d_Ce_add_0 : decode b_Ce_add 0 = .ok (.aload_n 0, 1) := by decide +kernel
theorem d_Ce_add_1 : decode b_Ce_add 1 = .ok (.dup, 1) := by decide +kernel
theorem d_Ce_add_2 : decode b_Ce_add 2 = .ok (.getfield 7, 3) := by decide +kernel
theorem d_Ce_add_5 : decode b_Ce_add 5 = .ok (.iload_n 1, 1) := by decide +kernel
theorem d_Ce_add_6 : decode b_Ce_add 6 = .ok (.aload_n 0, 1) := by decide +kernel
theorem d_Ce_add_7 : decode b_Ce_add 7 = .ok (.getfield 13, 3) := by decide +kernel
theorem d_Ce_add_10 : decode b_Ce_add 10 = .ok (.iconst (-1), 1) := by decide +kernel
theorem d_Ce_add_11 : decode b_Ce_add 11 = .ok (.ixor, 1) := by decide +kernel
theorem d_Ce_add_12 : decode b_Ce_add 12 = .ok (.iand, 1) := by decide +kernel
theorem d_Ce_add_13 : decode b_Ce_add 13 = .ok (.ior, 1) := by decide +kernel
theorem d_Ce_add_14 : decode b_Ce_add 14 = .ok (.putfield 7, 3) := by decide +kernel
theorem d_Ce_add_17 : decode b_Ce_add 17 = .ok (.return_, 1) := by decide +kernel
theorem d_Ce_turn_0 : decode b_Ce_turn 0 = .ok (.aload_n 0, 1) := by decide +kernel
theorem d_Ce_turn_1 : decode b_Ce_turn 1 = .ok (.aload_n 0, 1) := by decide +kernel
theorem d_Ce_turn_2 : decode b_Ce_turn 2 = .ok (.getfield 7, 3) := by decide +kernel
theorem d_Ce_turn_5 : decode b_Ce_turn 5 = .ok (.putfield 16, 3) := by decide +kernel
theorem d_Ce_turn_8 : decode b_Ce_turn 8 = .ok (.aload_n 0, 1) := by decide +kernel
theorem d_Ce_turn_9 : decode b_Ce_turn 9 = .ok (.dup, 1) := by decide +kernel
theorem d_Ce_turn_10 : decode b_Ce_turn 10 = .ok (.getfield 13, 3) := by decide +kernel
theorem d_Ce_turn_13 : decode b_Ce_turn 13 = .ok (.aload_n 0, 1) := by decide +kernel
theorem d_Ce_turn_14 : decode b_Ce_turn 14 = .ok (.getfield 7, 3) := by decide +kernel
theorem d_Ce_turn_17 : decode b_Ce_turn 17 = .ok (.ior, 1) := by decide +kernel
theorem d_Ce_turn_18 : decode b_Ce_turn 18 = .ok (.putfield 13, 3) := by decide +kernel
theorem d_Ce_turn_21 : decode b_Ce_turn 21 = .ok (.aload_n 0, 1) := by decide +kernel
theorem d_Ce_turn_22 : decode b_Ce_turn 22 = .ok (.iconst 0, 1) := by decide +kernel
theorem d_Ce_turn_23 : decode b_Ce_turn 23 = .ok (.putfield 7, 3) := by decide +kernel
theorem d_Ce_turn_26 : decode b_Ce_turn 26 = .ok (.aload_n 0, 1) := by decide +kernel
theorem d_Ce_turn_27 : decode b_Ce_turn 27 = .ok (.getfield 16, 3) := by decide +kernel
theorem d_Ce_turn_30 : decode b_Ce_turn 30 = .ok (.ifCond .eq 7, 3) := by decide +kernel
theorem d_Ce_turn_33 : decode b_Ce_turn 33 = .ok (.iconst 1, 1) := by decide +kernel
theorem d_Ce_turn_34 : decode b_Ce_turn 34 = .ok (.goto 4, 3) := by decide +kernel
theorem d_Ce_turn_37 : decode b_Ce_turn 37 = .ok (.iconst 0, 1) := by decide +kernel
theorem d_Ce_turn_38 : decode b_Ce_turn 38 = .ok (.ireturn, 1) := by decide +kernel
theorem d_AD_init_0 : decode b_AD_init 0 = .ok (.aload_n 0, 1) := by decide +kernel
theorem d_AD_init_1 : decode b_AD_init 1 = .ok (.invokespecial 42, 3) := by decide +kernel
theorem d_AD_init_4 : decode b_AD_init 4 = .ok (.aload_n 0, 1) := by decide +kernel
theorem d_AD_init_5 : decode b_AD_init 5 = .ok (.bipush 17, 2) := by decide +kernel
theorem d_AD_init_7 : decode b_AD_init 7 = .ok (.anewarray 47, 3) := by decide +kernel
theorem d_AD_init_10 : decode b_AD_init 10 = .ok (.putfield 3, 3) := by decide +kernel
theorem d_AD_init_13 : decode b_AD_init 13 = .ok (.return_, 1) := by decide +kernel
theorem d_Fr_init_0 : decode b_Fr_init 0 = .ok (.aload_n 0, 1) := by decide +kernel
theorem d_Fr_init_1 : decode b_Fr_init 1 = .ok (.invokespecial 1, 3) := by decide +kernel
theorem d_Fr_init_4 : decode b_Fr_init 4 = .ok (.aload_n 0, 1) := by decide +kernel
theorem d_Fr_init_5 : decode b_Fr_init 5 = .ok (.bipush 6, 2) := by decide +kernel
theorem d_Fr_init_7 : decode b_Fr_init 7 = .ok (.anewarray 7, 3) := by decide +kernel
theorem d_Fr_init_10 : decode b_Fr_init 10 = .ok (.putfield 9, 3) := by decide +kernel
theorem d_Fr_init_13 : decode b_Fr_init 13 = .ok (.aload_n 0, 1) := by decide +kernel
theorem d_Fr_init_14 : decode b_Fr_init 14 = .ok (.iload_n 1, 1) := by decide +kernel
theorem d_Fr_init_15 : decode b_Fr_init 15 = .ok (.putfield 15, 3) := by decide +kernel
theorem d_Fr_init_18 : decode b_Fr_init 18 = .ok (.aload_n 0, 1) := by decide +kernel
theorem d_Fr_init_19 : decode b_Fr_init 19 = .ok (.iload_n 2, 1) := by decide +kernel
theorem d_Fr_init_20 : decode b_Fr_init 20 = .ok (.putfield 19, 3) := by decide +kernel
theorem d_Fr_init_23 : decode b_Fr_init 23 = .ok (.aload_n 0, 1) := by decide +kernel
theorem d_Fr_init_24 : decode b_Fr_init 24 = .ok (.aload_n 3, 1) := by decide +kernel
theorem d_Fr_init_25 : decode b_Fr_init 25 = .ok (.putfield 22, 3) := by decide +kernel
theorem d_Fr_init_28 : decode b_Fr_init 28 = .ok (.return_, 1) := by decide +kernel
theorem d_AD_push_0 : decode b_AD_push 0 = .ok (.aload_n 0, 1) := by decide +kernel
theorem d_AD_push_1 : decode b_AD_push 1 = .ok (.aload_n 1, 1) := by decide +kernel
theorem d_AD_push_2 : decode b_AD_push 2 = .ok (.invokevirtual 86, 3) := by decide +kernel
theorem d_AD_push_5 : decode b_AD_push 5 = .ok (.return_, 1) := by decide +kernel
theorem d_AD_addFirst_0 : decode b_AD_addFirst 0 = .ok (.aload_n 1, 1) := by decide +kernel
theorem d_AD_addFirst_1 : decode b_AD_addFirst 1 = .ok (.ifnonnull 11, 3) := by decide +kernel
theorem d_AD_addFirst_4 : decode b_AD_addFirst 4 = .ok (.new 65, 3) := by decide +kernel
theorem d_AD_addFirst_7 : decode b_AD_addFirst 7 = .ok (.dup, 1) := by decide +kernel
theorem d_AD_addFirst_8 : decode b_AD_addFirst 8 = .ok (.invokespecial 67, 3) := by decide +kernel
theorem d_AD_addFirst_12 : decode b_AD_addFirst 12 = .ok (.aload_n 0, 1) := by decide +kernel
theorem d_AD_addFirst_13 : decode b_AD_addFirst 13 = .ok (.getfield 3, 3) := by decide +kernel
theorem d_AD_addFirst_16 : decode b_AD_addFirst 16 = .ok (.astore_n 2, 1) := by decide +kernel
theorem d_AD_addFirst_17 : decode b_AD_addFirst 17 = .ok (.aload_n 2, 1) := by decide +kernel
theorem d_AD_addFirst_18 : decode b_AD_addFirst 18 = .ok (.aload_n 0, 1) := by decide +kernel
theorem d_AD_addFirst_19 : decode b_AD_addFirst 19 = .ok (.aload_n 0, 1) := by decide +kernel
theorem d_AD_addFirst_20 : decode b_AD_addFirst 20 = .ok (.getfield 24, 3) := by decide +kernel
theorem d_AD_addFirst_23 : decode b_AD_addFirst 23 = .ok (.aload_n 2, 1) := by decide +kernel
theorem d_AD_addFirst_24 : decode b_AD_addFirst 24 = .ok (.arraylength, 1) := by decide +kernel
theorem d_AD_addFirst_25 : decode b_AD_addFirst 25 = .ok (.invokestatic 68, 3) := by decide +kernel
theorem d_AD_addFirst_28 : decode b_AD_addFirst 28 = .ok (.dup_x1, 1) := by decide +kernel
theorem d_AD_addFirst_29 : decode b_AD_addFirst 29 = .ok (.putfield 24, 3) := by decide +kernel
theorem d_AD_addFirst_32 : decode b_AD_addFirst 32 = .ok (.aload_n 1, 1) := by decide +kernel
theorem d_AD_addFirst_33 : decode b_AD_addFirst 33 = .ok (.aastore, 1) := by decide +kernel
theorem d_AD_addFirst_34 : decode b_AD_addFirst 34 = .ok (.aload_n 0, 1) := by decide +kernel
theorem d_AD_addFirst_35 : decode b_AD_addFirst 35 = .ok (.getfield 24, 3) := by decide +kernel
theorem d_AD_addFirst_38 : decode b_AD_addFirst 38 = .ok (.aload_n 0, 1) := by decide +kernel
theorem d_AD_addFirst_39 : decode b_AD_addFirst 39 = .ok (.getfield 20, 3) := by decide +kernel
theorem d_AD_addFirst_42 : decode b_AD_addFirst 42 = .ok (.if_icmp .ne 8, 3) := by decide +kernel
theorem d_AD_addFirst_45 : decode b_AD_addFirst 45 = .ok (.aload_n 0, 1) := by decide +kernel
theorem d_AD_addFirst_46 : decode b_AD_addFirst 46 = .ok (.iconst 1, 1) := by decide +kernel
theorem d_AD_addFirst_47 : decode b_AD_addFirst 47 = .ok (.invokevirtual 71, 3) := by decide +kernel
theorem d_AD_addFirst_50 : decode b_AD_addFirst 50 = .ok (.return_, 1) := by decide +kernel
theorem d_AD_dec_0 : decode b_AD_dec 0 = .ok (.iinc 0 (-1), 3) := by decide +kernel
theorem d_AD_dec_3 : decode b_AD_dec 3 = .ok (.iload_n 0, 1) := by decide +kernel
theorem d_AD_dec_4 : decode b_AD_dec 4 = .ok (.ifCond .ge 7, 3) := by decide +kernel
theorem d_AD_dec_7 : decode b_AD_dec 7 = .ok (.iload_n 1, 1) := by decide +kernel
theorem d_AD_dec_8 : decode b_AD_dec 8 = .ok (.iconst 1, 1) := by decide +kernel
theorem d_AD_dec_9 : decode b_AD_dec 9 = .ok (.isub, 1) := by decide +kernel
theorem d_AD_dec_10 : decode b_AD_dec 10 = .ok (.istore_n 0, 1) := by decide +kernel
theorem d_AD_dec_11 : decode b_AD_dec 11 = .ok (.iload_n 0, 1) := by decide +kernel
theorem d_AD_dec_12 : decode b_AD_dec 12 = .ok (.ireturn, 1) := by decide +kernel
theorem d_AD_peek_0 : decode b_AD_peek 0 = .ok (.aload_n 0, 1) := by decide +kernel
theorem d_AD_peek_1 : decode b_AD_peek 1 = .ok (.invokevirtual 124, 3) := by decide +kernel
theorem d_AD_peek_4 : decode b_AD_peek 4 = .ok (.areturn, 1) := by decide +kernel
theorem d_AD_peekFirst_0 : decode b_AD_peekFirst 0 = .ok (.aload_n 0, 1) := by decide +kernel
theorem d_AD_peekFirst_1 : decode b_AD_peekFirst 1 = .ok (.getfield 3, 3) := by decide +kernel
theorem d_AD_peekFirst_4 : decode b_AD_peekFirst 4 = .ok (.aload_n 0, 1) := by decide +kernel
theorem d_AD_peekFirst_5 : decode b_AD_peekFirst 5 = .ok (.getfield 24, 3) := by decide +kernel
theorem d_AD_peekFirst_8 : decode b_AD_peekFirst 8 = .ok (.invokestatic 103, 3) := by decide +kernel
theorem d_AD_peekFirst_11 : decode b_AD_peekFirst 11 = .ok (.areturn, 1) := by decide +kernel
theorem d_AD_elementAt_0 : decode b_AD_elementAt 0 = .ok (.aload_n 0, 1) := by decide +kernel
theorem d_AD_elementAt_1 : decode b_AD_elementAt 1 = .ok (.iload_n 1, 1) := by decide +kernel
theorem d_AD_elementAt_2 : decode b_AD_elementAt 2 = .ok (.aaload, 1) := by decide +kernel
theorem d_AD_elementAt_3 : decode b_AD_elementAt 3 = .ok (.areturn, 1) := by decide +kernel
theorem d_Th_init_0 : decode b_Th_init 0 = .ok (.aload_n 0, 1) := by decide +kernel
theorem d_Th_init_1 : decode b_Th_init 1 = .ok (.invokespecial 1, 3) := by decide +kernel
theorem d_Th_init_4 : decode b_Th_init 4 = .ok (.aload_n 0, 1) := by decide +kernel
theorem d_Th_init_5 : decode b_Th_init 5 = .ok (.bipush 8, 2) := by decide +kernel
theorem d_Th_init_7 : decode b_Th_init 7 = .ok (.anewarray 7, 3) := by decide +kernel
theorem d_Th_init_10 : decode b_Th_init 10 = .ok (.putfield 9, 3) := by decide +kernel
theorem d_Th_init_13 : decode b_Th_init 13 = .ok (.aload_n 0, 1) := by decide +kernel
theorem d_Th_init_14 : decode b_Th_init 14 = .ok (.iload_n 1, 1) := by decide +kernel
theorem d_Th_init_15 : decode b_Th_init 15 = .ok (.putfield 13, 3) := by decide +kernel
theorem d_Th_init_18 : decode b_Th_init 18 = .ok (.return_, 1) := by decide +kernel
theorem d_AD_size_0 : decode b_AD_size 0 = .ok (.aload_n 0, 1) := by decide +kernel
theorem d_AD_size_1 : decode b_AD_size 1 = .ok (.getfield 20, 3) := by decide +kernel
theorem d_AD_size_4 : decode b_AD_size 4 = .ok (.aload_n 0, 1) := by decide +kernel
theorem d_AD_size_5 : decode b_AD_size 5 = .ok (.getfield 24, 3) := by decide +kernel
theorem d_AD_size_8 : decode b_AD_size 8 = .ok (.aload_n 0, 1) := by decide +kernel
theorem d_AD_size_9 : decode b_AD_size 9 = .ok (.getfield 3, 3) := by decide +kernel
theorem d_AD_size_12 : decode b_AD_size 12 = .ok (.arraylength, 1) := by decide +kernel
theorem d_AD_size_13 : decode b_AD_size 13 = .ok (.invokestatic 127, 3) := by decide +kernel
theorem d_AD_size_16 : decode b_AD_size 16 = .ok (.ireturn, 1) := by decide +kernel
theorem d_AD_sub_0 : decode b_AD_sub 0 = .ok (.iload_n 0, 1) := by decide +kernel
theorem d_AD_sub_1 : decode b_AD_sub 1 = .ok (.iload_n 1, 1) := by decide +kernel
theorem d_AD_sub_2 : decode b_AD_sub 2 = .ok (.isub, 1) := by decide +kernel
theorem d_AD_sub_3 : decode b_AD_sub 3 = .ok (.dup, 1) := by decide +kernel
theorem d_AD_sub_4 : decode b_AD_sub 4 = .ok (.istore_n 0, 1) := by decide +kernel
theorem d_AD_sub_5 : decode b_AD_sub 5 = .ok (.ifCond .ge 7, 3) := by decide +kernel
theorem d_AD_sub_8 : decode b_AD_sub 8 = .ok (.iload_n 0, 1) := by decide +kernel
theorem d_AD_sub_9 : decode b_AD_sub 9 = .ok (.iload_n 2, 1) := by decide +kernel
theorem d_AD_sub_10 : decode b_AD_sub 10 = .ok (.iadd, 1) := by decide +kernel
theorem d_AD_sub_11 : decode b_AD_sub 11 = .ok (.istore_n 0, 1) := by decide +kernel
theorem d_AD_sub_12 : decode b_AD_sub 12 = .ok (.iload_n 0, 1) := by decide +kernel
theorem d_AD_sub_13 : decode b_AD_sub 13 = .ok (.ireturn, 1) := by decide +kernel
theorem d_AD_pop_0 : decode b_AD_pop 0 = .ok (.aload_n 0, 1) := by decide +kernel
theorem d_AD_pop_1 : decode b_AD_pop 1 = .ok (.invokevirtual 118, 3) := by decide +kernel
theorem d_AD_pop_4 : decode b_AD_pop 4 = .ok (.areturn, 1) := by decide +kernel
theorem d_AD_removeFirst_0 : decode b_AD_removeFirst 0 = .ok (.aload_n 0, 1) := by decide +kernel
theorem d_AD_removeFirst_1 : decode b_AD_removeFirst 1 = .ok (.invokevirtual 93, 3) := by decide +kernel
theorem d_AD_removeFirst_4 : decode b_AD_removeFirst 4 = .ok (.astore_n 1, 1) := by decide +kernel
theorem d_AD_removeFirst_5 : decode b_AD_removeFirst 5 = .ok (.aload_n 1, 1) := by decide +kernel
theorem d_AD_removeFirst_6 : decode b_AD_removeFirst 6 = .ok (.ifnonnull 11, 3) := by decide +kernel
theorem d_AD_removeFirst_9 : decode b_AD_removeFirst 9 = .ok (.new 97, 3) := by decide +kernel
theorem d_AD_removeFirst_12 : decode b_AD_removeFirst 12 = .ok (.dup, 1) := by decide +kernel
theorem d_AD_removeFirst_13 : decode b_AD_removeFirst 13 = .ok (.invokespecial 99, 3) := by decide +kernel
theorem d_AD_removeFirst_17 : decode b_AD_removeFirst 17 = .ok (.aload_n 1, 1) := by decide +kernel
theorem d_AD_removeFirst_18 : decode b_AD_removeFirst 18 = .ok (.areturn, 1) := by decide +kernel
theorem d_AD_pollFirst_0 : decode b_AD_pollFirst 0 = .ok (.aload_n 0, 1) := by decide +kernel
theorem d_AD_pollFirst_1 : decode b_AD_pollFirst 1 = .ok (.getfield 3, 3) := by decide +kernel
theorem d_AD_pollFirst_4 : decode b_AD_pollFirst 4 = .ok (.dup, 1) := by decide +kernel
theorem d_AD_pollFirst_5 : decode b_AD_pollFirst 5 = .ok (.astore_n 1, 1) := by decide +kernel
theorem d_AD_pollFirst_6 : decode b_AD_pollFirst 6 = .ok (.aload_n 0, 1) := by decide +kernel
theorem d_AD_pollFirst_7 : decode b_AD_pollFirst 7 = .ok (.getfield 24, 3) := by decide +kernel
theorem d_AD_pollFirst_10 : decode b_AD_pollFirst 10 = .ok (.dup, 1) := by decide +kernel
theorem d_AD_pollFirst_11 : decode b_AD_pollFirst 11 = .ok (.istore_n 2, 1) := by decide +kernel
theorem d_AD_pollFirst_12 : decode b_AD_pollFirst 12 = .ok (.invokestatic 103, 3) := by decide +kernel
theorem d_AD_pollFirst_15 : decode b_AD_pollFirst 15 = .ok (.astore_n 3, 1) := by decide +kernel
theorem d_AD_pollFirst_16 : decode b_AD_pollFirst 16 = .ok (.aload_n 3, 1) := by decide +kernel
theorem d_AD_pollFirst_17 : decode b_AD_pollFirst 17 = .ok (.ifnull 17, 3) := by decide +kernel
theorem d_AD_pollFirst_20 : decode b_AD_pollFirst 20 = .ok (.aload_n 1, 1) := by decide +kernel
theorem d_AD_pollFirst_21 : decode b_AD_pollFirst 21 = .ok (.iload_n 2, 1) := by decide +kernel
theorem d_AD_pollFirst_22 : decode b_AD_pollFirst 22 = .ok (.aconst_null, 1) := by decide +kernel
theorem d_AD_pollFirst_23 : decode b_AD_pollFirst 23 = .ok (.aastore, 1) := by decide +kernel
theorem d_AD_pollFirst_24 : decode b_AD_pollFirst 24 = .ok (.aload_n 0, 1) := by decide +kernel
theorem d_AD_pollFirst_25 : decode b_AD_pollFirst 25 = .ok (.iload_n 2, 1) := by decide +kernel
theorem d_AD_pollFirst_26 : decode b_AD_pollFirst 26 = .ok (.aload_n 1, 1) := by decide +kernel
theorem d_AD_pollFirst_27 : decode b_AD_pollFirst 27 = .ok (.arraylength, 1) := by decide +kernel
theorem d_AD_pollFirst_28 : decode b_AD_pollFirst 28 = .ok (.invokestatic 74, 3) := by decide +kernel
theorem d_AD_pollFirst_31 : decode b_AD_pollFirst 31 = .ok (.putfield 24, 3) := by decide +kernel
theorem d_AD_pollFirst_34 : decode b_AD_pollFirst 34 = .ok (.aload_n 3, 1) := by decide +kernel
theorem d_AD_pollFirst_35 : decode b_AD_pollFirst 35 = .ok (.areturn, 1) := by decide +kernel
theorem d_AD_inc_0 : decode b_AD_inc 0 = .ok (.iinc 0 1, 3) := by decide +kernel
theorem d_AD_inc_3 : decode b_AD_inc 3 = .ok (.iload_n 0, 1) := by decide +kernel
theorem d_AD_inc_4 : decode b_AD_inc 4 = .ok (.iload_n 1, 1) := by decide +kernel
theorem d_AD_inc_5 : decode b_AD_inc 5 = .ok (.if_icmp .lt 5, 3) := by decide +kernel
theorem d_AD_inc_8 : decode b_AD_inc 8 = .ok (.iconst 0, 1) := by decide +kernel
theorem d_AD_inc_9 : decode b_AD_inc 9 = .ok (.istore_n 0, 1) := by decide +kernel
theorem d_AD_inc_10 : decode b_AD_inc 10 = .ok (.iload_n 0, 1) := by decide +kernel
theorem d_AD_inc_11 : decode b_AD_inc 11 = .ok (.ireturn, 1) := by decide +kernel
