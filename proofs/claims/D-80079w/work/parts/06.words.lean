/-! words of the tables, by place -/
theorem k_0 : Cond.selects "java/util/ArrayList" y_AL_add1 y_AL_add1 ∈ zT := z_mem (List.mem_of_getElem? (i := 0) (by decide +kernel)) rfl
theorem k_1 : Cond.selects "java/util/ArrayList" y_AL_grow0 y_AL_grow0 ∈ zT := z_mem (List.mem_of_getElem? (i := 1) (by decide +kernel)) rfl
theorem k_2 : Cond.selects "java/util/ArrayList" y_AL_grow1 y_AL_grow1 ∈ zT := z_mem (List.mem_of_getElem? (i := 2) (by decide +kernel)) rfl
theorem k_3 : Cond.selects "PointsToRounds" y_P_isClass y_P_isClass ∈ zT := z_mem (List.mem_of_getElem? (i := 3) (by decide +kernel)) rfl
theorem k_4 : Cond.selects "PointsToRounds" y_P_change y_P_change ∈ zT := z_mem (List.mem_of_getElem? (i := 4) (by decide +kernel)) rfl
theorem k_5 : Cond.selects "PointsToRounds" y_P_isMethod y_P_isMethod ∈ zT := z_mem (List.mem_of_getElem? (i := 5) (by decide +kernel)) rfl
theorem k_6 : Cond.selects "PointsToRounds" y_P_areGood y_P_areGood ∈ zT := z_mem (List.mem_of_getElem? (i := 6) (by decide +kernel)) rfl
theorem k_7 : Cond.selects "PointsToRounds" y_P_isField y_P_isField ∈ zT := z_mem (List.mem_of_getElem? (i := 7) (by decide +kernel)) rfl
theorem k_8 : Cond.selects "PointsToRounds" y_P_find y_P_find ∈ zT := z_mem (List.mem_of_getElem? (i := 8) (by decide +kernel)) rfl
theorem k_9 : Cond.selects "PointsToRounds$Sets" y_Se_clear y_Se_clear ∈ zT := z_mem (List.mem_of_getElem? (i := 9) (by decide +kernel)) rfl
theorem k_10 : Cond.selects "PointsToRounds$Sets" y_Se_carry y_Se_carry ∈ zT := z_mem (List.mem_of_getElem? (i := 10) (by decide +kernel)) rfl
theorem k_11 : Cond.selects "PointsToRounds$Sets" y_Se_has y_Se_has ∈ zT := z_mem (List.mem_of_getElem? (i := 11) (by decide +kernel)) rfl
theorem k_12 : Cond.selects "PointsToRounds" y_P_hasField y_P_hasField ∈ zT := z_mem (List.mem_of_getElem? (i := 12) (by decide +kernel)) rfl
theorem k_13 : Cond.selects "PointsToRounds" y_P_isUnder y_P_isUnder ∈ zT := z_mem (List.mem_of_getElem? (i := 13) (by decide +kernel)) rfl
theorem k_14 : Cond.selects "PointsToRounds" y_P_under y_P_under ∈ zT := z_mem (List.mem_of_getElem? (i := 14) (by decide +kernel)) rfl
theorem k_15 : Cond.selects "PointsToRounds$Sets" y_Se_call y_Se_call ∈ zT := z_mem (List.mem_of_getElem? (i := 15) (by decide +kernel)) rfl
theorem k_16 : Cond.selects "PointsToRounds" y_P_found y_P_found ∈ zT := z_mem (List.mem_of_getElem? (i := 16) (by decide +kernel)) rfl
theorem k_17 : Cond.selects "PointsToRounds$Sets" y_Se_turn y_Se_turn ∈ zT := z_mem (List.mem_of_getElem? (i := 17) (by decide +kernel)) rfl
theorem k_18 : Cond.selects "PointsToRounds$Sets" y_Se_note y_Se_note ∈ zT := z_mem (List.mem_of_getElem? (i := 18) (by decide +kernel)) rfl
theorem k_19 : Cond.selects "PointsToRounds" y_P_isSite y_P_isSite ∈ zT := z_mem (List.mem_of_getElem? (i := 19) (by decide +kernel)) rfl
theorem k_20 : Cond.selects "java/util/ArrayDeque" y_AD_grow y_AD_grow ∈ zT := z_mem (List.mem_of_getElem? (i := 20) (by decide +kernel)) rfl
theorem k_21 : Cond.selects "java/util/ArrayDeque" y_AD_newCapacity y_AD_newCapacity ∈ zT := z_mem (List.mem_of_getElem? (i := 21) (by decide +kernel)) rfl
theorem k_22 : Cond.selects "PointsToRounds$Run" y_Ru_act y_Ru_act ∈ zT := z_mem (List.mem_of_getElem? (i := 22) (by decide +kernel)) rfl
theorem k_23 : Cond.selects "PointsToRounds$Run" y_Ru_call y_Ru_call ∈ zT := z_mem (List.mem_of_getElem? (i := 23) (by decide +kernel)) rfl
theorem k_24 : Cond.selects "PointsToRounds$Run" y_Ru_give y_Ru_give ∈ zT := z_mem (List.mem_of_getElem? (i := 24) (by decide +kernel)) rfl
theorem k_25 : Cond.selects "PointsToRounds$Run" y_Ru_look y_Ru_look ∈ zT := z_mem (List.mem_of_getElem? (i := 25) (by decide +kernel)) rfl
theorem k_26 : Cond.selects "PointsToRounds$Run" y_Ru_is y_Ru_is ∈ zT := z_mem (List.mem_of_getElem? (i := 26) (by decide +kernel)) rfl
theorem k_27 : Cond.selects "PointsToRoundsModel" y_M_change y_M_change ∈ zT := z_mem (List.mem_of_getElem? (i := 27) (by decide +kernel)) rfl
theorem k_28 : Cond.selects "PointsToRoundsModel" y_M_forgetRun y_M_forgetRun ∈ zT := z_mem (List.mem_of_getElem? (i := 28) (by decide +kernel)) rfl
theorem k_29 : Cond.selects "PointsToRoundsModel" y_M_isClass y_M_isClass ∈ zT := z_mem (List.mem_of_getElem? (i := 29) (by decide +kernel)) rfl
theorem k_30 : Cond.selects "PointsToRoundsModel" y_M_methodWith y_M_methodWith ∈ zT := z_mem (List.mem_of_getElem? (i := 30) (by decide +kernel)) rfl
theorem k_31 : Cond.selects "PointsToRoundsModel" y_M_isMethod y_M_isMethod ∈ zT := z_mem (List.mem_of_getElem? (i := 31) (by decide +kernel)) rfl
theorem k_32 : Cond.selects "PointsToRoundsModel" y_M_isGood y_M_isGood ∈ zT := z_mem (List.mem_of_getElem? (i := 32) (by decide +kernel)) rfl
theorem k_33 : Cond.selects "PointsToRoundsModel" y_M_isField y_M_isField ∈ zT := z_mem (List.mem_of_getElem? (i := 33) (by decide +kernel)) rfl
theorem k_34 : Cond.selects "PointsToRoundsModel" y_M_isContext y_M_isContext ∈ zT := z_mem (List.mem_of_getElem? (i := 34) (by decide +kernel)) rfl
theorem k_35 : Cond.selects "PointsToRoundsModel" y_M_know y_M_know ∈ zT := z_mem (List.mem_of_getElem? (i := 35) (by decide +kernel)) rfl
theorem k_36 : Cond.selects "PointsToRoundsModel" y_M_empty y_M_empty ∈ zT := z_mem (List.mem_of_getElem? (i := 36) (by decide +kernel)) rfl
theorem k_37 : Cond.selects "PointsToRoundsModel" y_M_copy y_M_copy ∈ zT := z_mem (List.mem_of_getElem? (i := 37) (by decide +kernel)) rfl
theorem k_38 : Cond.selects "PointsToRoundsModel" y_M_bring y_M_bring ∈ zT := z_mem (List.mem_of_getElem? (i := 38) (by decide +kernel)) rfl
theorem k_39 : Cond.selects "PointsToRoundsModel" y_M_call y_M_call ∈ zT := z_mem (List.mem_of_getElem? (i := 39) (by decide +kernel)) rfl
theorem k_40 : Cond.selects "PointsToRoundsModel" y_M_found y_M_found ∈ zT := z_mem (List.mem_of_getElem? (i := 40) (by decide +kernel)) rfl
theorem k_41 : Cond.selects "PointsToRoundsModel" y_M_bringEach y_M_bringEach ∈ zT := z_mem (List.mem_of_getElem? (i := 41) (by decide +kernel)) rfl
theorem k_42 : Cond.selects "PointsToRoundsModel" y_M_hasField y_M_hasField ∈ zT := z_mem (List.mem_of_getElem? (i := 42) (by decide +kernel)) rfl
theorem k_43 : Cond.selects "PointsToRoundsModel" y_M_isUnder y_M_isUnder ∈ zT := z_mem (List.mem_of_getElem? (i := 43) (by decide +kernel)) rfl
theorem k_44 : Cond.selects "PointsToRoundsModel" y_M_isSame y_M_isSame ∈ zT := z_mem (List.mem_of_getElem? (i := 44) (by decide +kernel)) rfl
theorem k_45 : Cond.selects "PointsToRoundsModel" y_M_swap y_M_swap ∈ zT := z_mem (List.mem_of_getElem? (i := 45) (by decide +kernel)) rfl
theorem k_46 : Cond.selects "PointsToRoundsModel" y_M_note y_M_note ∈ zT := z_mem (List.mem_of_getElem? (i := 46) (by decide +kernel)) rfl
theorem k_47 : Cond.selects "PointsToRoundsModel" y_M_allOf y_M_allOf ∈ zT := z_mem (List.mem_of_getElem? (i := 47) (by decide +kernel)) rfl
theorem k_48 : Cond.selects "PointsToRoundsModel" y_M_isSite y_M_isSite ∈ zT := z_mem (List.mem_of_getElem? (i := 48) (by decide +kernel)) rfl
theorem k_49 : Cond.selects "PointsToRoundsModel" y_M_open y_M_open ∈ zT := z_mem (List.mem_of_getElem? (i := 49) (by decide +kernel)) rfl
theorem k_50 : Cond.selects "PointsToRoundsModel" y_M_many y_M_many ∈ zT := z_mem (List.mem_of_getElem? (i := 50) (by decide +kernel)) rfl
theorem k_51 : Cond.selects "PointsToRoundsModel" y_M_statementOf y_M_statementOf ∈ zT := z_mem (List.mem_of_getElem? (i := 51) (by decide +kernel)) rfl
theorem k_52 : Cond.selects "PointsToRoundsModel" y_M_act y_M_act ∈ zT := z_mem (List.mem_of_getElem? (i := 52) (by decide +kernel)) rfl
theorem k_53 : Cond.selects "PointsToRoundsModel" y_M_make y_M_make ∈ zT := z_mem (List.mem_of_getElem? (i := 53) (by decide +kernel)) rfl
theorem k_54 : Cond.selects "PointsToRoundsModel" y_M_canHave y_M_canHave ∈ zT := z_mem (List.mem_of_getElem? (i := 54) (by decide +kernel)) rfl
theorem k_55 : Cond.selects "PointsToRoundsModel" y_M_enter y_M_enter ∈ zT := z_mem (List.mem_of_getElem? (i := 55) (by decide +kernel)) rfl
theorem k_56 : Cond.selects "PointsToRoundsModel" y_M_leave y_M_leave ∈ zT := z_mem (List.mem_of_getElem? (i := 56) (by decide +kernel)) rfl
theorem k_57 : Cond.selects "PointsToRoundsModel" y_M_holds y_M_holds ∈ zT := z_mem (List.mem_of_getElem? (i := 57) (by decide +kernel)) rfl
theorem k_58 : Cond.selects "PointsToRoundsModel" y_M_isIn y_M_isIn ∈ zT := z_mem (List.mem_of_getElem? (i := 58) (by decide +kernel)) rfl
theorem k_59 : Cond.initialized "PointsToRoundsLaw" ∈ zT := z_mem (List.mem_of_getElem? (i := 59) (by decide +kernel)) rfl
theorem k_60 : Cond.initialized "PointsToRounds" ∈ zT := z_mem (List.mem_of_getElem? (i := 60) (by decide +kernel)) rfl
theorem k_61 : Cond.initialized "java/util/AbstractCollection" ∈ zT := z_mem (List.mem_of_getElem? (i := 61) (by decide +kernel)) rfl
theorem k_62 : Cond.initialized "java/util/AbstractList" ∈ zT := z_mem (List.mem_of_getElem? (i := 62) (by decide +kernel)) rfl
theorem k_63 : Cond.initialized "java/util/ArrayList" ∈ zT := z_mem (List.mem_of_getElem? (i := 63) (by decide +kernel)) rfl
theorem k_64 : Cond.initialized "PointsToRounds$Sets" ∈ zT := z_mem (List.mem_of_getElem? (i := 64) (by decide +kernel)) rfl
theorem k_65 : Cond.initialized "PointsToRounds$Body" ∈ zT := z_mem (List.mem_of_getElem? (i := 65) (by decide +kernel)) rfl
theorem k_66 : Cond.initialized "PointsToRounds$Cell" ∈ zT := z_mem (List.mem_of_getElem? (i := 66) (by decide +kernel)) rfl
theorem k_67 : Cond.initialized "jdk/internal/util/ArraysSupport" ∈ zT := z_mem (List.mem_of_getElem? (i := 67) (by decide +kernel)) rfl
theorem k_68 : Cond.initialized "java/lang/Math" ∈ zT := z_mem (List.mem_of_getElem? (i := 68) (by decide +kernel)) rfl
theorem k_69 : Cond.initialized "java/util/Arrays" ∈ zT := z_mem (List.mem_of_getElem? (i := 69) (by decide +kernel)) rfl
theorem k_70 : Cond.initialized "java/lang/System" ∈ zT := z_mem (List.mem_of_getElem? (i := 70) (by decide +kernel)) rfl
theorem k_71 : Cond.initialized "PointsToRoundsModel" ∈ zT := z_mem (List.mem_of_getElem? (i := 71) (by decide +kernel)) rfl
theorem k_72 : Cond.initialized "PointsToRounds$Statement" ∈ zT := z_mem (List.mem_of_getElem? (i := 72) (by decide +kernel)) rfl
theorem k_73 : Cond.initialized "java/util/Objects" ∈ zT := z_mem (List.mem_of_getElem? (i := 73) (by decide +kernel)) rfl
theorem k_74 : Cond.initialized "jdk/internal/util/Preconditions" ∈ zT := z_mem (List.mem_of_getElem? (i := 74) (by decide +kernel)) rfl
theorem k_75 : Cond.initialized "PointsToRounds$Run" ∈ zT := z_mem (List.mem_of_getElem? (i := 75) (by decide +kernel)) rfl
theorem k_76 : Cond.initialized "java/util/ArrayDeque" ∈ zT := z_mem (List.mem_of_getElem? (i := 76) (by decide +kernel)) rfl
theorem k_77 : Cond.initialized "PointsToRounds$Frame" ∈ zT := z_mem (List.mem_of_getElem? (i := 77) (by decide +kernel)) rfl
theorem k_78 : Cond.initialized "PointsToRounds$Thing" ∈ zT := z_mem (List.mem_of_getElem? (i := 78) (by decide +kernel)) rfl
theorem k_79 : Cond.classLink "PointsToRoundsLaw" 7 "PointsToRounds" ∈ zT := z_mem (List.mem_of_getElem? (i := 79) (by decide +kernel)) rfl
theorem k_80 : Cond.instantiable "PointsToRounds" 15 ∈ zT := z_mem (List.mem_of_getElem? (i := 80) (by decide +kernel)) rfl
theorem k_81 : Cond.methodLink "PointsToRoundsLaw" 9 y_P_init ∈ zT := z_mem (List.mem_of_getElem? (i := 81) (by decide +kernel)) rfl
theorem k_82 : Cond.instanceMethod y_P_init ∈ zT := z_mem (List.mem_of_getElem? (i := 82) (by decide +kernel)) rfl
theorem k_83 : Cond.code y_P_init b_P_init 1 none ∈ zT := z_mem (List.mem_of_getElem? (i := 83) (by decide +kernel)) rfl
theorem k_84 : Cond.methodLink "PointsToRounds" 1 y_Obj_init ∈ zT := z_mem (List.mem_of_getElem? (i := 84) (by decide +kernel)) rfl
theorem k_85 : Cond.instanceMethod y_Obj_init ∈ zT := z_mem (List.mem_of_getElem? (i := 85) (by decide +kernel)) rfl
theorem k_86 : Cond.code y_Obj_init b_Obj_init 1 none ∈ zT := z_mem (List.mem_of_getElem? (i := 86) (by decide +kernel)) rfl
theorem k_87 : Cond.classLink "PointsToRounds" 22 "java/util/ArrayList" ∈ zT := z_mem (List.mem_of_getElem? (i := 87) (by decide +kernel)) rfl
theorem k_88 : Cond.instantiable "java/util/ArrayList" 3 ∈ zT := z_mem (List.mem_of_getElem? (i := 88) (by decide +kernel)) rfl
theorem k_89 : Cond.methodLink "PointsToRounds" 24 y_AL_init ∈ zT := z_mem (List.mem_of_getElem? (i := 89) (by decide +kernel)) rfl
theorem k_90 : Cond.instanceMethod y_AL_init ∈ zT := z_mem (List.mem_of_getElem? (i := 90) (by decide +kernel)) rfl
theorem k_91 : Cond.code y_AL_init b_AL_init 1 none ∈ zT := z_mem (List.mem_of_getElem? (i := 91) (by decide +kernel)) rfl
theorem k_92 : Cond.methodLink "java/util/ArrayList" 1 y_AbL_init ∈ zT := z_mem (List.mem_of_getElem? (i := 92) (by decide +kernel)) rfl
theorem k_93 : Cond.instanceMethod y_AbL_init ∈ zT := z_mem (List.mem_of_getElem? (i := 93) (by decide +kernel)) rfl
theorem k_94 : Cond.code y_AbL_init b_AbL_init 1 none ∈ zT := z_mem (List.mem_of_getElem? (i := 94) (by decide +kernel)) rfl
theorem k_95 : Cond.methodLink "java/util/AbstractList" 1 y_AbC_init ∈ zT := z_mem (List.mem_of_getElem? (i := 95) (by decide +kernel)) rfl
theorem k_96 : Cond.instanceMethod y_AbC_init ∈ zT := z_mem (List.mem_of_getElem? (i := 96) (by decide +kernel)) rfl
theorem k_97 : Cond.code y_AbC_init b_AbC_init 1 none ∈ zT := z_mem (List.mem_of_getElem? (i := 97) (by decide +kernel)) rfl
theorem k_98 : Cond.methodLink "java/util/AbstractCollection" 1 y_Obj_init ∈ zT := z_mem (List.mem_of_getElem? (i := 98) (by decide +kernel)) rfl
theorem k_99 : Cond.fieldLink "java/util/ArrayList" 39 "java/util/ArrayList" "DEFAULTCAPACITY_EMPTY_ELEMENTDATA" "[Ljava/lang/Object;" ∈ zT := z_mem (List.mem_of_getElem? (i := 99) (by decide +kernel)) rfl
theorem k_101 : Cond.fieldLink "java/util/ArrayList" 9 "java/util/ArrayList" "elementData" "[Ljava/lang/Object;" ∈ zT := z_mem (List.mem_of_getElem? (i := 101) (by decide +kernel)) rfl
theorem k_102 : Cond.fieldLink "java/util/ArrayList" 48 "java/util/ArrayList" "size" "I" ∈ zT := z_mem (List.mem_of_getElem? (i := 102) (by decide +kernel)) rfl
theorem k_103 : Cond.fieldLink "java/util/AbstractList" 7 "java/util/AbstractList" "modCount" "I" ∈ zT := z_mem (List.mem_of_getElem? (i := 103) (by decide +kernel)) rfl
theorem k_104 : Cond.fieldLink "java/util/ArrayList" 63 "java/util/ArrayList" "modCount" "I" ∈ zT := z_mem (List.mem_of_getElem? (i := 104) (by decide +kernel)) rfl
theorem k_105 : Cond.sameField "java/util/ArrayList" "java/util/AbstractList" "modCount" "I" ∈ zT := z_mem (List.mem_of_getElem? (i := 105) (by decide +kernel)) rfl
theorem k_114 : Cond.classLink "PointsToRounds" 35 "PointsToRounds$Sets" ∈ zT := z_mem (List.mem_of_getElem? (i := 114) (by decide +kernel)) rfl
theorem k_115 : Cond.instantiable "PointsToRounds$Sets" 7 ∈ zT := z_mem (List.mem_of_getElem? (i := 115) (by decide +kernel)) rfl
theorem k_116 : Cond.methodLink "PointsToRounds" 37 y_Se_init ∈ zT := z_mem (List.mem_of_getElem? (i := 116) (by decide +kernel)) rfl
theorem k_117 : Cond.instanceMethod y_Se_init ∈ zT := z_mem (List.mem_of_getElem? (i := 117) (by decide +kernel)) rfl
theorem k_118 : Cond.code y_Se_init b_Se_init 3 none ∈ zT := z_mem (List.mem_of_getElem? (i := 118) (by decide +kernel)) rfl
theorem k_119 : Cond.methodLink "PointsToRounds$Sets" 9 y_Obj_init ∈ zT := z_mem (List.mem_of_getElem? (i := 119) (by decide +kernel)) rfl
theorem k_120 : Cond.classLink "PointsToRounds$Sets" 15 "java/util/ArrayList" ∈ zT := z_mem (List.mem_of_getElem? (i := 120) (by decide +kernel)) rfl
theorem k_121 : Cond.methodLink "PointsToRounds$Sets" 17 y_AL_init ∈ zT := z_mem (List.mem_of_getElem? (i := 121) (by decide +kernel)) rfl
theorem k_122 : Cond.classLink "PointsToRounds$Sets" 35 "PointsToRounds$Body" ∈ zT := z_mem (List.mem_of_getElem? (i := 122) (by decide +kernel)) rfl
theorem k_123 : Cond.instantiable "PointsToRounds$Body" 4 ∈ zT := z_mem (List.mem_of_getElem? (i := 123) (by decide +kernel)) rfl
theorem k_124 : Cond.methodLink "PointsToRounds$Sets" 37 y_Bo_init ∈ zT := z_mem (List.mem_of_getElem? (i := 124) (by decide +kernel)) rfl
theorem k_125 : Cond.instanceMethod y_Bo_init ∈ zT := z_mem (List.mem_of_getElem? (i := 125) (by decide +kernel)) rfl
theorem k_126 : Cond.code y_Bo_init b_Bo_init 2 none ∈ zT := z_mem (List.mem_of_getElem? (i := 126) (by decide +kernel)) rfl
theorem k_127 : Cond.methodLink "PointsToRounds$Body" 3 y_Obj_init ∈ zT := z_mem (List.mem_of_getElem? (i := 127) (by decide +kernel)) rfl
theorem k_128 : Cond.classLink "PointsToRounds$Body" 9 "java/util/ArrayList" ∈ zT := z_mem (List.mem_of_getElem? (i := 128) (by decide +kernel)) rfl
theorem k_129 : Cond.methodLink "PointsToRounds$Body" 11 y_AL_init ∈ zT := z_mem (List.mem_of_getElem? (i := 129) (by decide +kernel)) rfl
theorem k_130 : Cond.classLink "PointsToRounds$Body" 18 "PointsToRounds$Cell" ∈ zT := z_mem (List.mem_of_getElem? (i := 130) (by decide +kernel)) rfl
theorem k_131 : Cond.instantiable "PointsToRounds$Cell" 3 ∈ zT := z_mem (List.mem_of_getElem? (i := 131) (by decide +kernel)) rfl
theorem k_132 : Cond.methodLinkNest "PointsToRounds$Body" 20 y_Ce_init "PointsToRounds" ∈ zT := z_mem (List.mem_of_getElem? (i := 132) (by decide +kernel)) rfl
theorem k_133 : Cond.instanceMethod y_Ce_init ∈ zT := z_mem (List.mem_of_getElem? (i := 133) (by decide +kernel)) rfl
theorem k_134 : Cond.code y_Ce_init b_Ce_init 1 none ∈ zT := z_mem (List.mem_of_getElem? (i := 134) (by decide +kernel)) rfl
theorem k_135 : Cond.methodLink "PointsToRounds$Cell" 1 y_Obj_init ∈ zT := z_mem (List.mem_of_getElem? (i := 135) (by decide +kernel)) rfl
theorem k_136 : Cond.fieldLink "PointsToRounds$Cell" 13 "PointsToRounds$Cell" "all" "I" ∈ zT := z_mem (List.mem_of_getElem? (i := 136) (by decide +kernel)) rfl
theorem k_137 : Cond.fieldLinkNest "PointsToRounds$Run" 158 "PointsToRounds$Cell" "all" "I" "PointsToRounds" ∈ zT := z_mem (List.mem_of_getElem? (i := 137) (by decide +kernel)) rfl
theorem k_138 : Cond.fieldLinkNest "PointsToRounds$Sets" 123 "PointsToRounds$Cell" "all" "I" "PointsToRounds" ∈ zT := z_mem (List.mem_of_getElem? (i := 138) (by decide +kernel)) rfl
theorem k_139 : Cond.fieldLinkNest "PointsToRounds" 138 "PointsToRounds$Cell" "all" "I" "PointsToRounds" ∈ zT := z_mem (List.mem_of_getElem? (i := 139) (by decide +kernel)) rfl
theorem k_140 : Cond.fieldLink "PointsToRounds$Cell" 16 "PointsToRounds$Cell" "fresh" "I" ∈ zT := z_mem (List.mem_of_getElem? (i := 140) (by decide +kernel)) rfl
theorem k_141 : Cond.fieldLinkNest "PointsToRounds$Sets" 84 "PointsToRounds$Cell" "fresh" "I" "PointsToRounds" ∈ zT := z_mem (List.mem_of_getElem? (i := 141) (by decide +kernel)) rfl
theorem k_142 : Cond.fieldLink "PointsToRounds$Cell" 7 "PointsToRounds$Cell" "coming" "I" ∈ zT := z_mem (List.mem_of_getElem? (i := 142) (by decide +kernel)) rfl
theorem k_151 : Cond.methodLink "PointsToRounds$Body" 21 ⟨"java/util/List", "add", "(Ljava/lang/Object;)Z"⟩ ∈ zT := z_mem (List.mem_of_getElem? (i := 151) (by decide +kernel)) rfl
theorem k_153 : Cond.declares ⟨"java/util/List", "add", "(Ljava/lang/Object;)Z"⟩ ∈ zT := z_mem (List.mem_of_getElem? (i := 153) (by decide +kernel)) rfl
theorem k_154 : Cond.castable "java/util/ArrayList" "java/util/List" ∈ zT := z_mem (List.mem_of_getElem? (i := 154) (by decide +kernel)) rfl
theorem k_155 : Cond.selects "java/util/ArrayList" ⟨"java/util/List", "add", "(Ljava/lang/Object;)Z"⟩ y_AL_add0 ∈ zT := z_mem (List.mem_of_getElem? (i := 155) (by decide +kernel)) rfl
theorem k_157 : Cond.instanceMethod y_AL_add0 ∈ zT := z_mem (List.mem_of_getElem? (i := 157) (by decide +kernel)) rfl
theorem k_159 : Cond.code y_AL_add0 b_AL_add0 2 (some .boolean) ∈ zT := z_mem (List.mem_of_getElem? (i := 159) (by decide +kernel)) rfl
theorem k_160 : Cond.methodLink "java/util/ArrayList" 131 y_AL_add1 ∈ zT := z_mem (List.mem_of_getElem? (i := 160) (by decide +kernel)) rfl
theorem k_162 : Cond.instanceMethod y_AL_add1 ∈ zT := z_mem (List.mem_of_getElem? (i := 162) (by decide +kernel)) rfl
theorem k_163 : Cond.code y_AL_add1 b_AL_add1 4 none ∈ zT := z_mem (List.mem_of_getElem? (i := 163) (by decide +kernel)) rfl
theorem k_164 : Cond.methodLink "java/util/ArrayList" 129 y_AL_grow0 ∈ zT := z_mem (List.mem_of_getElem? (i := 164) (by decide +kernel)) rfl
theorem k_166 : Cond.instanceMethod y_AL_grow0 ∈ zT := z_mem (List.mem_of_getElem? (i := 166) (by decide +kernel)) rfl
theorem k_167 : Cond.code y_AL_grow0 b_AL_grow0 1 (some (.array (.object "java/lang/Object"))) ∈ zT := z_mem (List.mem_of_getElem? (i := 167) (by decide +kernel)) rfl
theorem k_168 : Cond.methodLink "java/util/ArrayList" 69 y_AL_grow1 ∈ zT := z_mem (List.mem_of_getElem? (i := 168) (by decide +kernel)) rfl
theorem k_170 : Cond.instanceMethod y_AL_grow1 ∈ zT := z_mem (List.mem_of_getElem? (i := 170) (by decide +kernel)) rfl
theorem k_171 : Cond.code y_AL_grow1 b_AL_grow1 4 (some (.array (.object "java/lang/Object"))) ∈ zT := z_mem (List.mem_of_getElem? (i := 171) (by decide +kernel)) rfl
theorem k_172 : Cond.methodLink "java/util/ArrayList" 73 y_ArS_newLength ∈ zT := z_mem (List.mem_of_getElem? (i := 172) (by decide +kernel)) rfl
theorem k_173 : Cond.static y_ArS_newLength ∈ zT := z_mem (List.mem_of_getElem? (i := 173) (by decide +kernel)) rfl
theorem k_174 : Cond.code y_ArS_newLength b_ArS_newLength 4 (some .int) ∈ zT := z_mem (List.mem_of_getElem? (i := 174) (by decide +kernel)) rfl
theorem k_175 : Cond.methodLink "jdk/internal/util/ArraysSupport" 194 y_Mth_max ∈ zT := z_mem (List.mem_of_getElem? (i := 175) (by decide +kernel)) rfl
theorem k_176 : Cond.static y_Mth_max ∈ zT := z_mem (List.mem_of_getElem? (i := 176) (by decide +kernel)) rfl
theorem k_177 : Cond.code y_Mth_max b_Mth_max 2 (some .int) ∈ zT := z_mem (List.mem_of_getElem? (i := 177) (by decide +kernel)) rfl
theorem k_178 : Cond.constant "jdk/internal/util/ArraysSupport" 200 2147483639 ∈ zT := z_mem (List.mem_of_getElem? (i := 178) (by decide +kernel)) rfl
theorem k_179 : Cond.methodLink "jdk/internal/util/ArraysSupport" 201 y_ArS_hugeLength ∈ zT := z_mem (List.mem_of_getElem? (i := 179) (by decide +kernel)) rfl
theorem k_180 : Cond.static y_ArS_hugeLength ∈ zT := z_mem (List.mem_of_getElem? (i := 180) (by decide +kernel)) rfl
theorem k_181 : Cond.code y_ArS_hugeLength b_ArS_hugeLength 3 (some .int) ∈ zT := z_mem (List.mem_of_getElem? (i := 181) (by decide +kernel)) rfl
theorem k_182 : Cond.methodLink "java/util/ArrayList" 66 y_Ars_copyOf0 ∈ zT := z_mem (List.mem_of_getElem? (i := 182) (by decide +kernel)) rfl
theorem k_183 : Cond.static y_Ars_copyOf0 ∈ zT := z_mem (List.mem_of_getElem? (i := 183) (by decide +kernel)) rfl
theorem k_184 : Cond.code y_Ars_copyOf0 b_Ars_copyOf0 2 (some (.array (.object "java/lang/Object"))) ∈ zT := z_mem (List.mem_of_getElem? (i := 184) (by decide +kernel)) rfl
theorem k_185 : Cond.methodLink "java/util/Arrays" 86 ⟨"java/lang/Object", "getClass", "()Ljava/lang/Class;"⟩ ∈ zT := z_mem (List.mem_of_getElem? (i := 185) (by decide +kernel)) rfl
theorem k_186 : Cond.instanceMethod ⟨"java/lang/Object", "getClass", "()Ljava/lang/Class;"⟩ ∈ zT := z_mem (List.mem_of_getElem? (i := 186) (by decide +kernel)) rfl
theorem k_188 : Cond.selects "PointsToRounds" ⟨"java/lang/Object", "getClass", "()Ljava/lang/Class;"⟩ ⟨"java/lang/Object", "getClass", "()Ljava/lang/Class;"⟩ ∈ zT := z_mem (List.mem_of_getElem? (i := 188) (by decide +kernel)) rfl
theorem k_189 : Cond.selects "PointsToRounds$Body" ⟨"java/lang/Object", "getClass", "()Ljava/lang/Class;"⟩ ⟨"java/lang/Object", "getClass", "()Ljava/lang/Class;"⟩ ∈ zT := z_mem (List.mem_of_getElem? (i := 189) (by decide +kernel)) rfl
theorem k_190 : Cond.selects "PointsToRounds$Cell" ⟨"java/lang/Object", "getClass", "()Ljava/lang/Class;"⟩ ⟨"java/lang/Object", "getClass", "()Ljava/lang/Class;"⟩ ∈ zT := z_mem (List.mem_of_getElem? (i := 190) (by decide +kernel)) rfl
theorem k_191 : Cond.selects "PointsToRounds$Frame" ⟨"java/lang/Object", "getClass", "()Ljava/lang/Class;"⟩ ⟨"java/lang/Object", "getClass", "()Ljava/lang/Class;"⟩ ∈ zT := z_mem (List.mem_of_getElem? (i := 191) (by decide +kernel)) rfl
theorem k_192 : Cond.selects "PointsToRounds$Run" ⟨"java/lang/Object", "getClass", "()Ljava/lang/Class;"⟩ ⟨"java/lang/Object", "getClass", "()Ljava/lang/Class;"⟩ ∈ zT := z_mem (List.mem_of_getElem? (i := 192) (by decide +kernel)) rfl
theorem k_193 : Cond.selects "PointsToRounds$Sets" ⟨"java/lang/Object", "getClass", "()Ljava/lang/Class;"⟩ ⟨"java/lang/Object", "getClass", "()Ljava/lang/Class;"⟩ ∈ zT := z_mem (List.mem_of_getElem? (i := 193) (by decide +kernel)) rfl
theorem k_194 : Cond.selects "PointsToRounds$Statement" ⟨"java/lang/Object", "getClass", "()Ljava/lang/Class;"⟩ ⟨"java/lang/Object", "getClass", "()Ljava/lang/Class;"⟩ ∈ zT := z_mem (List.mem_of_getElem? (i := 194) (by decide +kernel)) rfl
theorem k_195 : Cond.selects "PointsToRounds$Thing" ⟨"java/lang/Object", "getClass", "()Ljava/lang/Class;"⟩ ⟨"java/lang/Object", "getClass", "()Ljava/lang/Class;"⟩ ∈ zT := z_mem (List.mem_of_getElem? (i := 195) (by decide +kernel)) rfl
theorem k_196 : Cond.selects "PointsToRoundsModel" ⟨"java/lang/Object", "getClass", "()Ljava/lang/Class;"⟩ ⟨"java/lang/Object", "getClass", "()Ljava/lang/Class;"⟩ ∈ zT := z_mem (List.mem_of_getElem? (i := 196) (by decide +kernel)) rfl
theorem k_197 : Cond.selects "java/util/ArrayDeque" ⟨"java/lang/Object", "getClass", "()Ljava/lang/Class;"⟩ ⟨"java/lang/Object", "getClass", "()Ljava/lang/Class;"⟩ ∈ zT := z_mem (List.mem_of_getElem? (i := 197) (by decide +kernel)) rfl
theorem k_198 : Cond.selects "java/util/ArrayList" ⟨"java/lang/Object", "getClass", "()Ljava/lang/Class;"⟩ ⟨"java/lang/Object", "getClass", "()Ljava/lang/Class;"⟩ ∈ zT := z_mem (List.mem_of_getElem? (i := 198) (by decide +kernel)) rfl
theorem k_199 : Cond.native ⟨"java/lang/Object", "getClass", "()Ljava/lang/Class;"⟩ ∈ zT := z_mem (List.mem_of_getElem? (i := 199) (by decide +kernel)) rfl
theorem k_200 : Cond.methodLink "java/util/Arrays" 300 y_Ars_copyOf1 ∈ zT := z_mem (List.mem_of_getElem? (i := 200) (by decide +kernel)) rfl
theorem k_201 : Cond.static y_Ars_copyOf1 ∈ zT := z_mem (List.mem_of_getElem? (i := 201) (by decide +kernel)) rfl
theorem k_202 : Cond.code y_Ars_copyOf1 b_Ars_copyOf1 4 (some (.array (.object "java/lang/Object"))) ∈ zT := z_mem (List.mem_of_getElem? (i := 202) (by decide +kernel)) rfl
theorem k_203 : Cond.classLink "java/util/Arrays" 110 "[Ljava/lang/Object;" ∈ zT := z_mem (List.mem_of_getElem? (i := 203) (by decide +kernel)) rfl
theorem k_205 : Cond.classLink "java/util/Arrays" 2 "java/lang/Object" ∈ zT := z_mem (List.mem_of_getElem? (i := 205) (by decide +kernel)) rfl
theorem k_206 : Cond.methodLink "java/util/Arrays" 304 y_Mth_min ∈ zT := z_mem (List.mem_of_getElem? (i := 206) (by decide +kernel)) rfl
theorem k_207 : Cond.static y_Mth_min ∈ zT := z_mem (List.mem_of_getElem? (i := 207) (by decide +kernel)) rfl
theorem k_208 : Cond.code y_Mth_min b_Mth_min 2 (some .int) ∈ zT := z_mem (List.mem_of_getElem? (i := 208) (by decide +kernel)) rfl
theorem k_209 : Cond.methodLink "java/util/Arrays" 150 ⟨"java/lang/System", "arraycopy", "(Ljava/lang/Object;ILjava/lang/Object;II)V"⟩ ∈ zT := z_mem (List.mem_of_getElem? (i := 209) (by decide +kernel)) rfl
theorem k_210 : Cond.static ⟨"java/lang/System", "arraycopy", "(Ljava/lang/Object;ILjava/lang/Object;II)V"⟩ ∈ zT := z_mem (List.mem_of_getElem? (i := 210) (by decide +kernel)) rfl
theorem k_211 : Cond.native ⟨"java/lang/System", "arraycopy", "(Ljava/lang/Object;ILjava/lang/Object;II)V"⟩ ∈ zT := z_mem (List.mem_of_getElem? (i := 211) (by decide +kernel)) rfl
theorem k_212 : Cond.methodLink "java/util/ArrayList" 79 y_Mth_max ∈ zT := z_mem (List.mem_of_getElem? (i := 212) (by decide +kernel)) rfl
theorem k_213 : Cond.classLink "java/util/ArrayList" 7 "java/lang/Object" ∈ zT := z_mem (List.mem_of_getElem? (i := 213) (by decide +kernel)) rfl
theorem k_214 : Cond.fieldLinkNest "PointsToRounds$Sets" 55 "PointsToRounds$Body" "isReached" "Z" "PointsToRounds" ∈ zT := z_mem (List.mem_of_getElem? (i := 214) (by decide +kernel)) rfl
theorem k_215 : Cond.fieldLinkNest "PointsToRounds" 156 "PointsToRounds$Body" "isReached" "Z" "PointsToRounds" ∈ zT := z_mem (List.mem_of_getElem? (i := 215) (by decide +kernel)) rfl
theorem k_216 : Cond.fieldLinkNest "PointsToRounds$Sets" 59 "PointsToRounds$Body" "isFresh" "Z" "PointsToRounds" ∈ zT := z_mem (List.mem_of_getElem? (i := 216) (by decide +kernel)) rfl
theorem k_217 : Cond.fieldLinkNest "PointsToRounds$Sets" 62 "PointsToRounds$Body" "comes" "Z" "PointsToRounds" ∈ zT := z_mem (List.mem_of_getElem? (i := 217) (by decide +kernel)) rfl
theorem k_218 : Cond.fieldLink "PointsToRounds$Body" 12 "PointsToRounds$Body" "names" "Ljava/util/List;" ∈ zT := z_mem (List.mem_of_getElem? (i := 218) (by decide +kernel)) rfl
theorem k_229 : Cond.methodLink "PointsToRounds$Sets" 38 ⟨"java/util/List", "add", "(Ljava/lang/Object;)Z"⟩ ∈ zT := z_mem (List.mem_of_getElem? (i := 229) (by decide +kernel)) rfl
theorem k_230 : Cond.classLink "PointsToRounds$Sets" 44 "PointsToRounds$Cell" ∈ zT := z_mem (List.mem_of_getElem? (i := 230) (by decide +kernel)) rfl
theorem k_231 : Cond.methodLinkNest "PointsToRounds$Sets" 46 y_Ce_init "PointsToRounds" ∈ zT := z_mem (List.mem_of_getElem? (i := 231) (by decide +kernel)) rfl
theorem k_232 : Cond.fieldLink "PointsToRounds$Sets" 18 "PointsToRounds$Sets" "inAll" "Ljava/util/List;" ∈ zT := z_mem (List.mem_of_getElem? (i := 232) (by decide +kernel)) rfl
theorem k_233 : Cond.fieldLink "PointsToRounds$Sets" 22 "PointsToRounds$Sets" "fieldCells" "Ljava/util/List;" ∈ zT := z_mem (List.mem_of_getElem? (i := 233) (by decide +kernel)) rfl
theorem k_234 : Cond.fieldLink "PointsToRounds$Sets" 25 "PointsToRounds$Sets" "elements" "Ljava/util/List;" ∈ zT := z_mem (List.mem_of_getElem? (i := 234) (by decide +kernel)) rfl
theorem k_235 : Cond.fieldLinkNest "PointsToRounds$Run" 188 "PointsToRounds$Sets" "elements" "Ljava/util/List;" "PointsToRounds" ∈ zT := z_mem (List.mem_of_getElem? (i := 235) (by decide +kernel)) rfl
theorem k_236 : Cond.fieldLinkNest "PointsToRounds" 150 "PointsToRounds$Sets" "elements" "Ljava/util/List;" "PointsToRounds" ∈ zT := z_mem (List.mem_of_getElem? (i := 236) (by decide +kernel)) rfl
theorem k_237 : Cond.fieldLink "PointsToRounds$Sets" 28 "PointsToRounds$Sets" "statics" "Ljava/util/List;" ∈ zT := z_mem (List.mem_of_getElem? (i := 237) (by decide +kernel)) rfl
theorem k_238 : Cond.fieldLinkNest "PointsToRounds$Run" 186 "PointsToRounds$Sets" "statics" "Ljava/util/List;" "PointsToRounds" ∈ zT := z_mem (List.mem_of_getElem? (i := 238) (by decide +kernel)) rfl
theorem k_239 : Cond.fieldLinkNest "PointsToRounds" 153 "PointsToRounds$Sets" "statics" "Ljava/util/List;" "PointsToRounds" ∈ zT := z_mem (List.mem_of_getElem? (i := 239) (by decide +kernel)) rfl
theorem k_240 : Cond.fieldLink "PointsToRounds$Sets" 31 "PointsToRounds$Sets" "whens" "[I" ∈ zT := z_mem (List.mem_of_getElem? (i := 240) (by decide +kernel)) rfl
theorem k_241 : Cond.fieldLinkNest "PointsToRounds" 180 "PointsToRounds$Sets" "whens" "[I" "PointsToRounds" ∈ zT := z_mem (List.mem_of_getElem? (i := 241) (by decide +kernel)) rfl
theorem k_242 : Cond.fieldLink "PointsToRounds$Sets" 94 "PointsToRounds$Sets" "round" "I" ∈ zT := z_mem (List.mem_of_getElem? (i := 242) (by decide +kernel)) rfl
theorem k_243 : Cond.fieldLinkNest "PointsToRounds" 177 "PointsToRounds$Sets" "round" "I" "PointsToRounds" ∈ zT := z_mem (List.mem_of_getElem? (i := 243) (by decide +kernel)) rfl
theorem k_244 : Cond.fieldLink "PointsToRounds$Sets" 3 "PointsToRounds$Sets" "this$0" "LPointsToRounds;" ∈ zT := z_mem (List.mem_of_getElem? (i := 244) (by decide +kernel)) rfl
theorem k_260 : Cond.fieldLink "PointsToRounds" 7 "PointsToRounds" "parents" "[I" ∈ zT := z_mem (List.mem_of_getElem? (i := 260) (by decide +kernel)) rfl
theorem k_261 : Cond.fieldLink "PointsToRounds" 66 "PointsToRounds" "classes" "I" ∈ zT := z_mem (List.mem_of_getElem? (i := 261) (by decide +kernel)) rfl
theorem k_262 : Cond.fieldLink "PointsToRounds" 13 "PointsToRounds" "fieldClasses" "[I" ∈ zT := z_mem (List.mem_of_getElem? (i := 262) (by decide +kernel)) rfl
theorem k_263 : Cond.fieldLinkNest "PointsToRounds$Run" 191 "PointsToRounds" "fields" "I" "PointsToRounds" ∈ zT := z_mem (List.mem_of_getElem? (i := 263) (by decide +kernel)) rfl
theorem k_264 : Cond.fieldLink "PointsToRounds" 69 "PointsToRounds" "fields" "I" ∈ zT := z_mem (List.mem_of_getElem? (i := 264) (by decide +kernel)) rfl
theorem k_265 : Cond.fieldLink "PointsToRounds" 16 "PointsToRounds" "methodClasses" "[I" ∈ zT := z_mem (List.mem_of_getElem? (i := 265) (by decide +kernel)) rfl
theorem k_266 : Cond.fieldLink "PointsToRounds" 19 "PointsToRounds" "signatures" "[I" ∈ zT := z_mem (List.mem_of_getElem? (i := 266) (by decide +kernel)) rfl
theorem k_267 : Cond.fieldLink "PointsToRounds" 44 "PointsToRounds" "methods" "I" ∈ zT := z_mem (List.mem_of_getElem? (i := 267) (by decide +kernel)) rfl
theorem k_268 : Cond.fieldLinkNest "PointsToRounds$Sets" 72 "PointsToRounds" "methods" "I" "PointsToRounds" ∈ zT := z_mem (List.mem_of_getElem? (i := 268) (by decide +kernel)) rfl
theorem k_269 : Cond.fieldLink "PointsToRounds" 25 "PointsToRounds" "statements" "Ljava/util/List;" ∈ zT := z_mem (List.mem_of_getElem? (i := 269) (by decide +kernel)) rfl
theorem k_270 : Cond.fieldLink "PointsToRounds" 29 "PointsToRounds" "bodies" "Ljava/util/List;" ∈ zT := z_mem (List.mem_of_getElem? (i := 270) (by decide +kernel)) rfl
theorem k_271 : Cond.fieldLinkNest "PointsToRounds$Run" 54 "PointsToRounds" "bodies" "Ljava/util/List;" "PointsToRounds" ∈ zT := z_mem (List.mem_of_getElem? (i := 271) (by decide +kernel)) rfl
theorem k_272 : Cond.fieldLinkNest "PointsToRounds$Sets" 98 "PointsToRounds" "bodies" "Ljava/util/List;" "PointsToRounds" ∈ zT := z_mem (List.mem_of_getElem? (i := 272) (by decide +kernel)) rfl
theorem k_273 : Cond.fieldLink "PointsToRounds" 32 "PointsToRounds" "siteClasses" "[I" ∈ zT := z_mem (List.mem_of_getElem? (i := 273) (by decide +kernel)) rfl
theorem k_274 : Cond.fieldLinkNest "PointsToRounds$Run" 128 "PointsToRounds" "siteClasses" "[I" "PointsToRounds" ∈ zT := z_mem (List.mem_of_getElem? (i := 274) (by decide +kernel)) rfl
theorem k_275 : Cond.fieldLinkNest "PointsToRounds$Sets" 149 "PointsToRounds" "siteClasses" "[I" "PointsToRounds" ∈ zT := z_mem (List.mem_of_getElem? (i := 275) (by decide +kernel)) rfl
theorem k_276 : Cond.fieldLink "PointsToRounds" 52 "PointsToRounds" "sites" "I" ∈ zT := z_mem (List.mem_of_getElem? (i := 276) (by decide +kernel)) rfl
theorem k_277 : Cond.fieldLinkNest "PointsToRounds$Sets" 91 "PointsToRounds" "sites" "I" "PointsToRounds" ∈ zT := z_mem (List.mem_of_getElem? (i := 277) (by decide +kernel)) rfl
theorem k_278 : Cond.fieldLinkNest "PointsToRounds$Run" 149 "PointsToRounds" "mode" "I" "PointsToRounds" ∈ zT := z_mem (List.mem_of_getElem? (i := 278) (by decide +kernel)) rfl
theorem k_279 : Cond.fieldLinkNest "PointsToRounds$Sets" 155 "PointsToRounds" "mode" "I" "PointsToRounds" ∈ zT := z_mem (List.mem_of_getElem? (i := 279) (by decide +kernel)) rfl
theorem k_280 : Cond.fieldLink "PointsToRounds" 117 "PointsToRounds" "mode" "I" ∈ zT := z_mem (List.mem_of_getElem? (i := 280) (by decide +kernel)) rfl
theorem k_281 : Cond.fieldLink "PointsToRounds" 40 "PointsToRounds" "sets" "LPointsToRounds$Sets;" ∈ zT := z_mem (List.mem_of_getElem? (i := 281) (by decide +kernel)) rfl
theorem k_282 : Cond.fieldLinkNest "PointsToRounds$Run" 163 "PointsToRounds" "sets" "LPointsToRounds$Sets;" "PointsToRounds" ∈ zT := z_mem (List.mem_of_getElem? (i := 282) (by decide +kernel)) rfl
theorem k_283 : Cond.fieldLink "PointsToRounds" 55 "PointsToRounds" "known" "Z" ∈ zT := z_mem (List.mem_of_getElem? (i := 283) (by decide +kernel)) rfl
theorem k_284 : Cond.fieldLink "PointsToRounds" 59 "PointsToRounds" "latest" "LPointsToRounds$Run;" ∈ zT := z_mem (List.mem_of_getElem? (i := 284) (by decide +kernel)) rfl
theorem k_316 : Cond.methodLink "PointsToRoundsLaw" 13 y_P_cls ∈ zT := z_mem (List.mem_of_getElem? (i := 316) (by decide +kernel)) rfl
theorem k_317 : Cond.instanceMethod y_P_cls ∈ zT := z_mem (List.mem_of_getElem? (i := 317) (by decide +kernel)) rfl
theorem k_318 : Cond.selects "PointsToRounds" y_P_cls y_P_cls ∈ zT := z_mem (List.mem_of_getElem? (i := 318) (by decide +kernel)) rfl
theorem k_319 : Cond.code y_P_cls b_P_cls 2 (some .int) ∈ zT := z_mem (List.mem_of_getElem? (i := 319) (by decide +kernel)) rfl
theorem k_320 : Cond.methodLink "PointsToRounds" 72 y_P_isClass ∈ zT := z_mem (List.mem_of_getElem? (i := 320) (by decide +kernel)) rfl
theorem k_322 : Cond.instanceMethod y_P_isClass ∈ zT := z_mem (List.mem_of_getElem? (i := 322) (by decide +kernel)) rfl
theorem k_323 : Cond.code y_P_isClass b_P_isClass 2 (some .boolean) ∈ zT := z_mem (List.mem_of_getElem? (i := 323) (by decide +kernel)) rfl
theorem k_324 : Cond.methodLink "PointsToRounds" 76 y_P_change ∈ zT := z_mem (List.mem_of_getElem? (i := 324) (by decide +kernel)) rfl
theorem k_326 : Cond.instanceMethod y_P_change ∈ zT := z_mem (List.mem_of_getElem? (i := 326) (by decide +kernel)) rfl
theorem k_327 : Cond.code y_P_change b_P_change 1 none ∈ zT := z_mem (List.mem_of_getElem? (i := 327) (by decide +kernel)) rfl
theorem k_328 : Cond.methodLink "PointsToRoundsLaw" 18 y_P_field ∈ zT := z_mem (List.mem_of_getElem? (i := 328) (by decide +kernel)) rfl
theorem k_329 : Cond.instanceMethod y_P_field ∈ zT := z_mem (List.mem_of_getElem? (i := 329) (by decide +kernel)) rfl
theorem k_330 : Cond.selects "PointsToRounds" y_P_field y_P_field ∈ zT := z_mem (List.mem_of_getElem? (i := 330) (by decide +kernel)) rfl
theorem k_331 : Cond.code y_P_field b_P_field 2 (some .int) ∈ zT := z_mem (List.mem_of_getElem? (i := 331) (by decide +kernel)) rfl
theorem k_332 : Cond.methodLink "PointsToRoundsLaw" 22 y_P_method ∈ zT := z_mem (List.mem_of_getElem? (i := 332) (by decide +kernel)) rfl
theorem k_333 : Cond.instanceMethod y_P_method ∈ zT := z_mem (List.mem_of_getElem? (i := 333) (by decide +kernel)) rfl
theorem k_334 : Cond.selects "PointsToRounds" y_P_method y_P_method ∈ zT := z_mem (List.mem_of_getElem? (i := 334) (by decide +kernel)) rfl
theorem k_335 : Cond.code y_P_method b_P_method 4 (some .int) ∈ zT := z_mem (List.mem_of_getElem? (i := 335) (by decide +kernel)) rfl
theorem k_337 : Cond.methodLink "PointsToRounds" 79 ⟨"java/util/List", "add", "(Ljava/lang/Object;)Z"⟩ ∈ zT := z_mem (List.mem_of_getElem? (i := 337) (by decide +kernel)) rfl
theorem k_338 : Cond.methodLink "PointsToRoundsLaw" 27 y_P_statement ∈ zT := z_mem (List.mem_of_getElem? (i := 338) (by decide +kernel)) rfl
theorem k_339 : Cond.instanceMethod y_P_statement ∈ zT := z_mem (List.mem_of_getElem? (i := 339) (by decide +kernel)) rfl
theorem k_340 : Cond.selects "PointsToRounds" y_P_statement y_P_statement ∈ zT := z_mem (List.mem_of_getElem? (i := 340) (by decide +kernel)) rfl
theorem k_341 : Cond.code y_P_statement b_P_statement 9 (some .int) ∈ zT := z_mem (List.mem_of_getElem? (i := 341) (by decide +kernel)) rfl
theorem k_342 : Cond.methodLink "PointsToRounds" 94 y_P_isMethod ∈ zT := z_mem (List.mem_of_getElem? (i := 342) (by decide +kernel)) rfl
theorem k_344 : Cond.instanceMethod y_P_isMethod ∈ zT := z_mem (List.mem_of_getElem? (i := 344) (by decide +kernel)) rfl
theorem k_345 : Cond.code y_P_isMethod b_P_isMethod 2 (some .boolean) ∈ zT := z_mem (List.mem_of_getElem? (i := 345) (by decide +kernel)) rfl
theorem k_346 : Cond.methodLink "PointsToRounds" 97 y_P_areGood ∈ zT := z_mem (List.mem_of_getElem? (i := 346) (by decide +kernel)) rfl
theorem k_348 : Cond.instanceMethod y_P_areGood ∈ zT := z_mem (List.mem_of_getElem? (i := 348) (by decide +kernel)) rfl
theorem k_349 : Cond.code y_P_areGood b_P_areGood 7 (some .boolean) ∈ zT := z_mem (List.mem_of_getElem? (i := 349) (by decide +kernel)) rfl
theorem k_350 : Cond.methodLink "PointsToRounds" 85 y_P_isName ∈ zT := z_mem (List.mem_of_getElem? (i := 350) (by decide +kernel)) rfl
theorem k_351 : Cond.static y_P_isName ∈ zT := z_mem (List.mem_of_getElem? (i := 351) (by decide +kernel)) rfl
theorem k_352 : Cond.code y_P_isName b_P_isName 1 (some .boolean) ∈ zT := z_mem (List.mem_of_getElem? (i := 352) (by decide +kernel)) rfl
theorem k_353 : Cond.methodLink "PointsToRounds" 88 y_P_isField ∈ zT := z_mem (List.mem_of_getElem? (i := 353) (by decide +kernel)) rfl
theorem k_355 : Cond.instanceMethod y_P_isField ∈ zT := z_mem (List.mem_of_getElem? (i := 355) (by decide +kernel)) rfl
theorem k_356 : Cond.code y_P_isField b_P_isField 2 (some .boolean) ∈ zT := z_mem (List.mem_of_getElem? (i := 356) (by decide +kernel)) rfl
theorem k_357 : Cond.methodLink "PointsToRounds" 91 y_P_isStatic ∈ zT := z_mem (List.mem_of_getElem? (i := 357) (by decide +kernel)) rfl
theorem k_358 : Cond.static y_P_isStatic ∈ zT := z_mem (List.mem_of_getElem? (i := 358) (by decide +kernel)) rfl
theorem k_359 : Cond.code y_P_isStatic b_P_isStatic 1 (some .boolean) ∈ zT := z_mem (List.mem_of_getElem? (i := 359) (by decide +kernel)) rfl
theorem k_361 : Cond.methodLink "PointsToRounds" 101 ⟨"java/util/List", "size", "()I"⟩ ∈ zT := z_mem (List.mem_of_getElem? (i := 361) (by decide +kernel)) rfl
theorem k_363 : Cond.declares ⟨"java/util/List", "size", "()I"⟩ ∈ zT := z_mem (List.mem_of_getElem? (i := 363) (by decide +kernel)) rfl
theorem k_364 : Cond.selects "java/util/ArrayList" ⟨"java/util/List", "size", "()I"⟩ y_AL_size ∈ zT := z_mem (List.mem_of_getElem? (i := 364) (by decide +kernel)) rfl
theorem k_366 : Cond.instanceMethod y_AL_size ∈ zT := z_mem (List.mem_of_getElem? (i := 366) (by decide +kernel)) rfl
theorem k_368 : Cond.code y_AL_size b_AL_size 1 (some .int) ∈ zT := z_mem (List.mem_of_getElem? (i := 368) (by decide +kernel)) rfl
theorem k_369 : Cond.classLink "PointsToRounds" 105 "PointsToRounds$Statement" ∈ zT := z_mem (List.mem_of_getElem? (i := 369) (by decide +kernel)) rfl
theorem k_370 : Cond.instantiable "PointsToRounds$Statement" 8 ∈ zT := z_mem (List.mem_of_getElem? (i := 370) (by decide +kernel)) rfl
theorem k_371 : Cond.methodLink "PointsToRounds" 107 y_St_init ∈ zT := z_mem (List.mem_of_getElem? (i := 371) (by decide +kernel)) rfl
theorem k_372 : Cond.instanceMethod y_St_init ∈ zT := z_mem (List.mem_of_getElem? (i := 372) (by decide +kernel)) rfl
theorem k_373 : Cond.code y_St_init b_St_init 8 none ∈ zT := z_mem (List.mem_of_getElem? (i := 373) (by decide +kernel)) rfl
theorem k_374 : Cond.methodLink "PointsToRounds$Statement" 1 y_Obj_init ∈ zT := z_mem (List.mem_of_getElem? (i := 374) (by decide +kernel)) rfl
theorem k_375 : Cond.fieldLink "PointsToRounds$Statement" 13 "PointsToRounds$Statement" "method" "I" ∈ zT := z_mem (List.mem_of_getElem? (i := 375) (by decide +kernel)) rfl
theorem k_376 : Cond.fieldLinkNest "PointsToRounds" 162 "PointsToRounds$Statement" "method" "I" "PointsToRounds" ∈ zT := z_mem (List.mem_of_getElem? (i := 376) (by decide +kernel)) rfl
theorem k_377 : Cond.fieldLink "PointsToRounds$Statement" 16 "PointsToRounds$Statement" "kind" "I" ∈ zT := z_mem (List.mem_of_getElem? (i := 377) (by decide +kernel)) rfl
theorem k_378 : Cond.fieldLinkNest "PointsToRounds$Run" 101 "PointsToRounds$Statement" "kind" "I" "PointsToRounds" ∈ zT := z_mem (List.mem_of_getElem? (i := 378) (by decide +kernel)) rfl
theorem k_379 : Cond.fieldLinkNest "PointsToRounds$Sets" 108 "PointsToRounds$Statement" "kind" "I" "PointsToRounds" ∈ zT := z_mem (List.mem_of_getElem? (i := 379) (by decide +kernel)) rfl
theorem k_380 : Cond.fieldLinkNest "PointsToRounds" 159 "PointsToRounds$Statement" "kind" "I" "PointsToRounds" ∈ zT := z_mem (List.mem_of_getElem? (i := 380) (by decide +kernel)) rfl
theorem k_381 : Cond.fieldLink "PointsToRounds$Statement" 19 "PointsToRounds$Statement" "p" "I" ∈ zT := z_mem (List.mem_of_getElem? (i := 381) (by decide +kernel)) rfl
theorem k_382 : Cond.fieldLinkNest "PointsToRounds$Run" 98 "PointsToRounds$Statement" "p" "I" "PointsToRounds" ∈ zT := z_mem (List.mem_of_getElem? (i := 382) (by decide +kernel)) rfl
theorem k_383 : Cond.fieldLinkNest "PointsToRounds$Sets" 111 "PointsToRounds$Statement" "p" "I" "PointsToRounds" ∈ zT := z_mem (List.mem_of_getElem? (i := 383) (by decide +kernel)) rfl
theorem k_384 : Cond.fieldLink "PointsToRounds$Statement" 22 "PointsToRounds$Statement" "q" "I" ∈ zT := z_mem (List.mem_of_getElem? (i := 384) (by decide +kernel)) rfl
theorem k_385 : Cond.fieldLinkNest "PointsToRounds$Run" 104 "PointsToRounds$Statement" "q" "I" "PointsToRounds" ∈ zT := z_mem (List.mem_of_getElem? (i := 385) (by decide +kernel)) rfl
theorem k_386 : Cond.fieldLinkNest "PointsToRounds$Sets" 120 "PointsToRounds$Statement" "q" "I" "PointsToRounds" ∈ zT := z_mem (List.mem_of_getElem? (i := 386) (by decide +kernel)) rfl
theorem k_387 : Cond.fieldLinkNest "PointsToRounds" 165 "PointsToRounds$Statement" "q" "I" "PointsToRounds" ∈ zT := z_mem (List.mem_of_getElem? (i := 387) (by decide +kernel)) rfl
theorem k_388 : Cond.fieldLink "PointsToRounds$Statement" 25 "PointsToRounds$Statement" "\x72" "I" ∈ zT := z_mem (List.mem_of_getElem? (i := 388) (by decide +kernel)) rfl
theorem k_389 : Cond.fieldLinkNest "PointsToRounds$Run" 118 "PointsToRounds$Statement" "\x72" "I" "PointsToRounds" ∈ zT := z_mem (List.mem_of_getElem? (i := 389) (by decide +kernel)) rfl
theorem k_390 : Cond.fieldLinkNest "PointsToRounds$Sets" 130 "PointsToRounds$Statement" "\x72" "I" "PointsToRounds" ∈ zT := z_mem (List.mem_of_getElem? (i := 390) (by decide +kernel)) rfl
theorem k_391 : Cond.fieldLinkNest "PointsToRounds" 168 "PointsToRounds$Statement" "\x72" "I" "PointsToRounds" ∈ zT := z_mem (List.mem_of_getElem? (i := 391) (by decide +kernel)) rfl
theorem k_392 : Cond.fieldLink "PointsToRounds$Statement" 28 "PointsToRounds$Statement" "s" "I" ∈ zT := z_mem (List.mem_of_getElem? (i := 392) (by decide +kernel)) rfl
theorem k_393 : Cond.fieldLinkNest "PointsToRounds$Run" 152 "PointsToRounds$Statement" "s" "I" "PointsToRounds" ∈ zT := z_mem (List.mem_of_getElem? (i := 393) (by decide +kernel)) rfl
theorem k_394 : Cond.fieldLinkNest "PointsToRounds$Sets" 158 "PointsToRounds$Statement" "s" "I" "PointsToRounds" ∈ zT := z_mem (List.mem_of_getElem? (i := 394) (by decide +kernel)) rfl
theorem k_395 : Cond.fieldLink "PointsToRounds$Statement" 31 "PointsToRounds$Statement" "t" "I" ∈ zT := z_mem (List.mem_of_getElem? (i := 395) (by decide +kernel)) rfl
theorem k_396 : Cond.fieldLinkNest "PointsToRounds$Run" 155 "PointsToRounds$Statement" "t" "I" "PointsToRounds" ∈ zT := z_mem (List.mem_of_getElem? (i := 396) (by decide +kernel)) rfl
theorem k_397 : Cond.fieldLinkNest "PointsToRounds$Sets" 161 "PointsToRounds$Statement" "t" "I" "PointsToRounds" ∈ zT := z_mem (List.mem_of_getElem? (i := 397) (by decide +kernel)) rfl
theorem k_398 : Cond.fieldLink "PointsToRounds$Statement" 7 "PointsToRounds$Statement" "site" "I" ∈ zT := z_mem (List.mem_of_getElem? (i := 398) (by decide +kernel)) rfl
theorem k_399 : Cond.fieldLinkNest "PointsToRounds$Run" 107 "PointsToRounds$Statement" "site" "I" "PointsToRounds" ∈ zT := z_mem (List.mem_of_getElem? (i := 399) (by decide +kernel)) rfl
theorem k_400 : Cond.fieldLinkNest "PointsToRounds$Sets" 114 "PointsToRounds$Statement" "site" "I" "PointsToRounds" ∈ zT := z_mem (List.mem_of_getElem? (i := 400) (by decide +kernel)) rfl
theorem k_401 : Cond.fieldLinkNest "PointsToRounds" 110 "PointsToRounds$Statement" "site" "I" "PointsToRounds" ∈ zT := z_mem (List.mem_of_getElem? (i := 401) (by decide +kernel)) rfl
theorem k_420 : Cond.methodLink "PointsToRounds" 113 ⟨"java/util/List", "get", "(I)Ljava/lang/Object;"⟩ ∈ zT := z_mem (List.mem_of_getElem? (i := 420) (by decide +kernel)) rfl
theorem k_422 : Cond.declares ⟨"java/util/List", "get", "(I)Ljava/lang/Object;"⟩ ∈ zT := z_mem (List.mem_of_getElem? (i := 422) (by decide +kernel)) rfl
theorem k_423 : Cond.selects "java/util/ArrayList" ⟨"java/util/List", "get", "(I)Ljava/lang/Object;"⟩ y_AL_get ∈ zT := z_mem (List.mem_of_getElem? (i := 423) (by decide +kernel)) rfl
theorem k_425 : Cond.instanceMethod y_AL_get ∈ zT := z_mem (List.mem_of_getElem? (i := 425) (by decide +kernel)) rfl
theorem k_427 : Cond.code y_AL_get b_AL_get 2 (some (.object "java/lang/Object")) ∈ zT := z_mem (List.mem_of_getElem? (i := 427) (by decide +kernel)) rfl
theorem k_428 : Cond.methodLink "java/util/ArrayList" 118 y_Objs_checkIndex ∈ zT := z_mem (List.mem_of_getElem? (i := 428) (by decide +kernel)) rfl
theorem k_429 : Cond.static y_Objs_checkIndex ∈ zT := z_mem (List.mem_of_getElem? (i := 429) (by decide +kernel)) rfl
theorem k_430 : Cond.code y_Objs_checkIndex b_Objs_checkIndex 2 (some .int) ∈ zT := z_mem (List.mem_of_getElem? (i := 430) (by decide +kernel)) rfl
theorem k_431 : Cond.methodLink "java/util/Objects" 105 y_Prc_checkIndex ∈ zT := z_mem (List.mem_of_getElem? (i := 431) (by decide +kernel)) rfl
theorem k_432 : Cond.static y_Prc_checkIndex ∈ zT := z_mem (List.mem_of_getElem? (i := 432) (by decide +kernel)) rfl
theorem k_433 : Cond.code y_Prc_checkIndex b_Prc_checkIndex 3 (some .int) ∈ zT := z_mem (List.mem_of_getElem? (i := 433) (by decide +kernel)) rfl
theorem k_434 : Cond.methodLink "java/util/ArrayList" 123 y_AL_elementData ∈ zT := z_mem (List.mem_of_getElem? (i := 434) (by decide +kernel)) rfl
theorem k_435 : Cond.instanceMethod y_AL_elementData ∈ zT := z_mem (List.mem_of_getElem? (i := 435) (by decide +kernel)) rfl
theorem k_436 : Cond.selects "java/util/ArrayList" y_AL_elementData y_AL_elementData ∈ zT := z_mem (List.mem_of_getElem? (i := 436) (by decide +kernel)) rfl
theorem k_437 : Cond.code y_AL_elementData b_AL_elementData 2 (some (.object "java/lang/Object")) ∈ zT := z_mem (List.mem_of_getElem? (i := 437) (by decide +kernel)) rfl
theorem k_438 : Cond.classLink "PointsToRounds" 80 "java/util/List" ∈ zT := z_mem (List.mem_of_getElem? (i := 438) (by decide +kernel)) rfl
theorem k_439 : Cond.methodLink "PointsToRoundsLaw" 32 y_P_mode ∈ zT := z_mem (List.mem_of_getElem? (i := 439) (by decide +kernel)) rfl
theorem k_440 : Cond.instanceMethod y_P_mode ∈ zT := z_mem (List.mem_of_getElem? (i := 440) (by decide +kernel)) rfl
theorem k_441 : Cond.selects "PointsToRounds" y_P_mode y_P_mode ∈ zT := z_mem (List.mem_of_getElem? (i := 441) (by decide +kernel)) rfl
theorem k_442 : Cond.code y_P_mode b_P_mode 3 (some .int) ∈ zT := z_mem (List.mem_of_getElem? (i := 442) (by decide +kernel)) rfl
theorem k_443 : Cond.methodLink "PointsToRoundsLaw" 36 y_P_clear ∈ zT := z_mem (List.mem_of_getElem? (i := 443) (by decide +kernel)) rfl
theorem k_444 : Cond.instanceMethod y_P_clear ∈ zT := z_mem (List.mem_of_getElem? (i := 444) (by decide +kernel)) rfl
theorem k_445 : Cond.selects "PointsToRounds" y_P_clear y_P_clear ∈ zT := z_mem (List.mem_of_getElem? (i := 445) (by decide +kernel)) rfl
theorem k_446 : Cond.code y_P_clear b_P_clear 2 (some .int) ∈ zT := z_mem (List.mem_of_getElem? (i := 446) (by decide +kernel)) rfl
theorem k_448 : Cond.methodLink "PointsToRounds" 120 ⟨"java/util/List", "clear", "()V"⟩ ∈ zT := z_mem (List.mem_of_getElem? (i := 448) (by decide +kernel)) rfl
theorem k_450 : Cond.declares ⟨"java/util/List", "clear", "()V"⟩ ∈ zT := z_mem (List.mem_of_getElem? (i := 450) (by decide +kernel)) rfl
theorem k_451 : Cond.selects "java/util/ArrayList" ⟨"java/util/List", "clear", "()V"⟩ y_AL_clear ∈ zT := z_mem (List.mem_of_getElem? (i := 451) (by decide +kernel)) rfl
theorem k_453 : Cond.instanceMethod y_AL_clear ∈ zT := z_mem (List.mem_of_getElem? (i := 453) (by decide +kernel)) rfl
theorem k_455 : Cond.code y_AL_clear b_AL_clear 4 none ∈ zT := z_mem (List.mem_of_getElem? (i := 455) (by decide +kernel)) rfl
theorem k_456 : Cond.methodLink "PointsToRoundsLaw" 41 y_P_points ∈ zT := z_mem (List.mem_of_getElem? (i := 456) (by decide +kernel)) rfl
theorem k_457 : Cond.instanceMethod y_P_points ∈ zT := z_mem (List.mem_of_getElem? (i := 457) (by decide +kernel)) rfl
theorem k_458 : Cond.selects "PointsToRounds" y_P_points y_P_points ∈ zT := z_mem (List.mem_of_getElem? (i := 458) (by decide +kernel)) rfl
theorem k_459 : Cond.code y_P_points b_P_points 4 (some .int) ∈ zT := z_mem (List.mem_of_getElem? (i := 459) (by decide +kernel)) rfl
theorem k_460 : Cond.methodLink "PointsToRounds" 123 y_P_find ∈ zT := z_mem (List.mem_of_getElem? (i := 460) (by decide +kernel)) rfl
theorem k_462 : Cond.instanceMethod y_P_find ∈ zT := z_mem (List.mem_of_getElem? (i := 462) (by decide +kernel)) rfl
theorem k_463 : Cond.code y_P_find b_P_find 1 none ∈ zT := z_mem (List.mem_of_getElem? (i := 463) (by decide +kernel)) rfl
theorem k_464 : Cond.methodLink "PointsToRounds" 63 y_Se_find ∈ zT := z_mem (List.mem_of_getElem? (i := 464) (by decide +kernel)) rfl
theorem k_465 : Cond.instanceMethod y_Se_find ∈ zT := z_mem (List.mem_of_getElem? (i := 465) (by decide +kernel)) rfl
theorem k_466 : Cond.selects "PointsToRounds$Sets" y_Se_find y_Se_find ∈ zT := z_mem (List.mem_of_getElem? (i := 466) (by decide +kernel)) rfl
theorem k_467 : Cond.code y_Se_find b_Se_find 7 none ∈ zT := z_mem (List.mem_of_getElem? (i := 467) (by decide +kernel)) rfl
theorem k_468 : Cond.methodLink "PointsToRounds$Sets" 97 y_Se_clear ∈ zT := z_mem (List.mem_of_getElem? (i := 468) (by decide +kernel)) rfl
theorem k_470 : Cond.instanceMethod y_Se_clear ∈ zT := z_mem (List.mem_of_getElem? (i := 470) (by decide +kernel)) rfl
theorem k_471 : Cond.code y_Se_clear b_Se_clear 4 none ∈ zT := z_mem (List.mem_of_getElem? (i := 471) (by decide +kernel)) rfl
theorem k_473 : Cond.methodLink "PointsToRounds$Sets" 51 ⟨"java/util/List", "size", "()I"⟩ ∈ zT := z_mem (List.mem_of_getElem? (i := 473) (by decide +kernel)) rfl
theorem k_475 : Cond.methodLink "PointsToRounds$Sets" 47 ⟨"java/util/List", "get", "(I)Ljava/lang/Object;"⟩ ∈ zT := z_mem (List.mem_of_getElem? (i := 475) (by decide +kernel)) rfl
theorem k_476 : Cond.methodLink "PointsToRounds$Sets" 65 y_Bo_name ∈ zT := z_mem (List.mem_of_getElem? (i := 476) (by decide +kernel)) rfl
theorem k_477 : Cond.instanceMethod y_Bo_name ∈ zT := z_mem (List.mem_of_getElem? (i := 477) (by decide +kernel)) rfl
theorem k_478 : Cond.selects "PointsToRounds$Body" y_Bo_name y_Bo_name ∈ zT := z_mem (List.mem_of_getElem? (i := 478) (by decide +kernel)) rfl
theorem k_479 : Cond.code y_Bo_name b_Bo_name 2 (some (.object "PointsToRounds$Cell")) ∈ zT := z_mem (List.mem_of_getElem? (i := 479) (by decide +kernel)) rfl
theorem k_481 : Cond.methodLink "PointsToRounds$Body" 27 ⟨"java/util/List", "get", "(I)Ljava/lang/Object;"⟩ ∈ zT := z_mem (List.mem_of_getElem? (i := 481) (by decide +kernel)) rfl
theorem k_482 : Cond.methodLink "PointsToRounds$Sets" 69 y_Ce_clear ∈ zT := z_mem (List.mem_of_getElem? (i := 482) (by decide +kernel)) rfl
theorem k_483 : Cond.instanceMethod y_Ce_clear ∈ zT := z_mem (List.mem_of_getElem? (i := 483) (by decide +kernel)) rfl
theorem k_484 : Cond.selects "PointsToRounds$Cell" y_Ce_clear y_Ce_clear ∈ zT := z_mem (List.mem_of_getElem? (i := 484) (by decide +kernel)) rfl
theorem k_485 : Cond.code y_Ce_clear b_Ce_clear 1 none ∈ zT := z_mem (List.mem_of_getElem? (i := 485) (by decide +kernel)) rfl
theorem k_486 : Cond.methodLink "PointsToRounds$Sets" 76 y_Se_body ∈ zT := z_mem (List.mem_of_getElem? (i := 486) (by decide +kernel)) rfl
theorem k_487 : Cond.instanceMethod y_Se_body ∈ zT := z_mem (List.mem_of_getElem? (i := 487) (by decide +kernel)) rfl
theorem k_488 : Cond.selects "PointsToRounds$Sets" y_Se_body y_Se_body ∈ zT := z_mem (List.mem_of_getElem? (i := 488) (by decide +kernel)) rfl
theorem k_489 : Cond.code y_Se_body b_Se_body 3 (some (.object "PointsToRounds$Body")) ∈ zT := z_mem (List.mem_of_getElem? (i := 489) (by decide +kernel)) rfl
theorem k_490 : Cond.classLink "PointsToRounds$Sets" 39 "java/util/List" ∈ zT := z_mem (List.mem_of_getElem? (i := 490) (by decide +kernel)) rfl
theorem k_491 : Cond.classLink "PointsToRounds$Sets" 101 "PointsToRounds$Statement" ∈ zT := z_mem (List.mem_of_getElem? (i := 491) (by decide +kernel)) rfl
theorem k_492 : Cond.methodLink "PointsToRounds$Sets" 103 y_Se_carry ∈ zT := z_mem (List.mem_of_getElem? (i := 492) (by decide +kernel)) rfl
theorem k_494 : Cond.instanceMethod y_Se_carry ∈ zT := z_mem (List.mem_of_getElem? (i := 494) (by decide +kernel)) rfl
theorem k_495 : Cond.code y_Se_carry b_Se_carry 5 none ∈ zT := z_mem (List.mem_of_getElem? (i := 495) (by decide +kernel)) rfl
theorem k_496 : Cond.methodLink "PointsToRounds$Sets" 117 y_Ce_add ∈ zT := z_mem (List.mem_of_getElem? (i := 496) (by decide +kernel)) rfl
theorem k_497 : Cond.instanceMethod y_Ce_add ∈ zT := z_mem (List.mem_of_getElem? (i := 497) (by decide +kernel)) rfl
theorem k_498 : Cond.selects "PointsToRounds$Cell" y_Ce_add y_Ce_add ∈ zT := z_mem (List.mem_of_getElem? (i := 498) (by decide +kernel)) rfl
theorem k_499 : Cond.code y_Ce_add b_Ce_add 2 none ∈ zT := z_mem (List.mem_of_getElem? (i := 499) (by decide +kernel)) rfl
theorem k_500 : Cond.methodLink "PointsToRounds$Sets" 126 y_Se_has ∈ zT := z_mem (List.mem_of_getElem? (i := 500) (by decide +kernel)) rfl
theorem k_502 : Cond.instanceMethod y_Se_has ∈ zT := z_mem (List.mem_of_getElem? (i := 502) (by decide +kernel)) rfl
theorem k_503 : Cond.code y_Se_has b_Se_has 4 (some .boolean) ∈ zT := z_mem (List.mem_of_getElem? (i := 503) (by decide +kernel)) rfl
theorem k_504 : Cond.methodLinkNest "PointsToRounds$Sets" 133 y_P_hasField "PointsToRounds" ∈ zT := z_mem (List.mem_of_getElem? (i := 504) (by decide +kernel)) rfl
theorem k_506 : Cond.instanceMethod y_P_hasField ∈ zT := z_mem (List.mem_of_getElem? (i := 506) (by decide +kernel)) rfl
theorem k_507 : Cond.code y_P_hasField b_P_hasField 3 (some .boolean) ∈ zT := z_mem (List.mem_of_getElem? (i := 507) (by decide +kernel)) rfl
theorem k_508 : Cond.methodLink "PointsToRounds" 48 y_P_isUnder ∈ zT := z_mem (List.mem_of_getElem? (i := 508) (by decide +kernel)) rfl
theorem k_510 : Cond.instanceMethod y_P_isUnder ∈ zT := z_mem (List.mem_of_getElem? (i := 510) (by decide +kernel)) rfl
theorem k_511 : Cond.code y_P_isUnder b_P_isUnder 4 (some .boolean) ∈ zT := z_mem (List.mem_of_getElem? (i := 511) (by decide +kernel)) rfl
theorem k_512 : Cond.methodLink "PointsToRounds$Sets" 137 y_Se_field ∈ zT := z_mem (List.mem_of_getElem? (i := 512) (by decide +kernel)) rfl
theorem k_513 : Cond.instanceMethod y_Se_field ∈ zT := z_mem (List.mem_of_getElem? (i := 513) (by decide +kernel)) rfl
theorem k_514 : Cond.selects "PointsToRounds$Sets" y_Se_field y_Se_field ∈ zT := z_mem (List.mem_of_getElem? (i := 514) (by decide +kernel)) rfl
theorem k_515 : Cond.code y_Se_field b_Se_field 3 (some (.object "PointsToRounds$Cell")) ∈ zT := z_mem (List.mem_of_getElem? (i := 515) (by decide +kernel)) rfl
theorem k_516 : Cond.methodLinkNest "PointsToRounds$Sets" 141 y_P_under "PointsToRounds" ∈ zT := z_mem (List.mem_of_getElem? (i := 516) (by decide +kernel)) rfl
theorem k_518 : Cond.instanceMethod y_P_under ∈ zT := z_mem (List.mem_of_getElem? (i := 518) (by decide +kernel)) rfl
theorem k_519 : Cond.code y_P_under b_P_under 5 (some .int) ∈ zT := z_mem (List.mem_of_getElem? (i := 519) (by decide +kernel)) rfl
theorem k_520 : Cond.methodLink "PointsToRounds$Sets" 145 y_Se_call ∈ zT := z_mem (List.mem_of_getElem? (i := 520) (by decide +kernel)) rfl
theorem k_522 : Cond.instanceMethod y_Se_call ∈ zT := z_mem (List.mem_of_getElem? (i := 522) (by decide +kernel)) rfl
theorem k_523 : Cond.code y_Se_call b_Se_call 6 none ∈ zT := z_mem (List.mem_of_getElem? (i := 523) (by decide +kernel)) rfl
theorem k_524 : Cond.methodLinkNest "PointsToRounds$Sets" 152 y_P_found "PointsToRounds" ∈ zT := z_mem (List.mem_of_getElem? (i := 524) (by decide +kernel)) rfl
theorem k_526 : Cond.instanceMethod y_P_found ∈ zT := z_mem (List.mem_of_getElem? (i := 526) (by decide +kernel)) rfl
theorem k_527 : Cond.code y_P_found b_P_found 5 (some .int) ∈ zT := z_mem (List.mem_of_getElem? (i := 527) (by decide +kernel)) rfl
theorem k_528 : Cond.methodLink "PointsToRounds$Sets" 107 y_Se_turn ∈ zT := z_mem (List.mem_of_getElem? (i := 528) (by decide +kernel)) rfl
theorem k_530 : Cond.instanceMethod y_Se_turn ∈ zT := z_mem (List.mem_of_getElem? (i := 530) (by decide +kernel)) rfl
theorem k_531 : Cond.code y_Se_turn b_Se_turn 6 (some .boolean) ∈ zT := z_mem (List.mem_of_getElem? (i := 531) (by decide +kernel)) rfl
theorem k_532 : Cond.methodLink "PointsToRounds$Sets" 80 y_Ce_turn ∈ zT := z_mem (List.mem_of_getElem? (i := 532) (by decide +kernel)) rfl
theorem k_533 : Cond.instanceMethod y_Ce_turn ∈ zT := z_mem (List.mem_of_getElem? (i := 533) (by decide +kernel)) rfl
theorem k_534 : Cond.selects "PointsToRounds$Cell" y_Ce_turn y_Ce_turn ∈ zT := z_mem (List.mem_of_getElem? (i := 534) (by decide +kernel)) rfl
theorem k_535 : Cond.code y_Ce_turn b_Ce_turn 1 (some .boolean) ∈ zT := z_mem (List.mem_of_getElem? (i := 535) (by decide +kernel)) rfl
theorem k_536 : Cond.methodLink "PointsToRounds$Sets" 87 y_Se_note ∈ zT := z_mem (List.mem_of_getElem? (i := 536) (by decide +kernel)) rfl
theorem k_538 : Cond.instanceMethod y_Se_note ∈ zT := z_mem (List.mem_of_getElem? (i := 538) (by decide +kernel)) rfl
theorem k_539 : Cond.code y_Se_note b_Se_note 6 none ∈ zT := z_mem (List.mem_of_getElem? (i := 539) (by decide +kernel)) rfl
theorem k_540 : Cond.methodLink "PointsToRounds" 124 y_Se_points ∈ zT := z_mem (List.mem_of_getElem? (i := 540) (by decide +kernel)) rfl
theorem k_541 : Cond.instanceMethod y_Se_points ∈ zT := z_mem (List.mem_of_getElem? (i := 541) (by decide +kernel)) rfl
theorem k_542 : Cond.selects "PointsToRounds$Sets" y_Se_points y_Se_points ∈ zT := z_mem (List.mem_of_getElem? (i := 542) (by decide +kernel)) rfl
theorem k_543 : Cond.code y_Se_points b_Se_points 5 (some .int) ∈ zT := z_mem (List.mem_of_getElem? (i := 543) (by decide +kernel)) rfl
theorem k_544 : Cond.methodLink "PointsToRounds" 128 y_Se_body ∈ zT := z_mem (List.mem_of_getElem? (i := 544) (by decide +kernel)) rfl
theorem k_545 : Cond.methodLink "PointsToRounds" 132 y_Bo_name ∈ zT := z_mem (List.mem_of_getElem? (i := 545) (by decide +kernel)) rfl
theorem k_546 : Cond.methodLink "PointsToRoundsLaw" 46 y_P_inField ∈ zT := z_mem (List.mem_of_getElem? (i := 546) (by decide +kernel)) rfl
theorem k_547 : Cond.instanceMethod y_P_inField ∈ zT := z_mem (List.mem_of_getElem? (i := 547) (by decide +kernel)) rfl
theorem k_548 : Cond.selects "PointsToRounds" y_P_inField y_P_inField ∈ zT := z_mem (List.mem_of_getElem? (i := 548) (by decide +kernel)) rfl
theorem k_549 : Cond.code y_P_inField b_P_inField 3 (some .int) ∈ zT := z_mem (List.mem_of_getElem? (i := 549) (by decide +kernel)) rfl
theorem k_550 : Cond.methodLink "PointsToRounds" 143 y_P_isSite ∈ zT := z_mem (List.mem_of_getElem? (i := 550) (by decide +kernel)) rfl
theorem k_552 : Cond.instanceMethod y_P_isSite ∈ zT := z_mem (List.mem_of_getElem? (i := 552) (by decide +kernel)) rfl
theorem k_553 : Cond.code y_P_isSite b_P_isSite 2 (some .boolean) ∈ zT := z_mem (List.mem_of_getElem? (i := 553) (by decide +kernel)) rfl
theorem k_554 : Cond.methodLink "PointsToRounds" 146 y_Se_field ∈ zT := z_mem (List.mem_of_getElem? (i := 554) (by decide +kernel)) rfl
theorem k_555 : Cond.methodLink "PointsToRoundsLaw" 50 y_P_element ∈ zT := z_mem (List.mem_of_getElem? (i := 555) (by decide +kernel)) rfl
theorem k_556 : Cond.instanceMethod y_P_element ∈ zT := z_mem (List.mem_of_getElem? (i := 556) (by decide +kernel)) rfl
theorem k_557 : Cond.selects "PointsToRounds" y_P_element y_P_element ∈ zT := z_mem (List.mem_of_getElem? (i := 557) (by decide +kernel)) rfl
theorem k_558 : Cond.code y_P_element b_P_element 2 (some .int) ∈ zT := z_mem (List.mem_of_getElem? (i := 558) (by decide +kernel)) rfl
theorem k_559 : Cond.classLink "PointsToRounds" 139 "PointsToRounds$Cell" ∈ zT := z_mem (List.mem_of_getElem? (i := 559) (by decide +kernel)) rfl
theorem k_560 : Cond.methodLink "PointsToRoundsLaw" 54 y_P_inStatic ∈ zT := z_mem (List.mem_of_getElem? (i := 560) (by decide +kernel)) rfl
theorem k_561 : Cond.instanceMethod y_P_inStatic ∈ zT := z_mem (List.mem_of_getElem? (i := 561) (by decide +kernel)) rfl
theorem k_562 : Cond.selects "PointsToRounds" y_P_inStatic y_P_inStatic ∈ zT := z_mem (List.mem_of_getElem? (i := 562) (by decide +kernel)) rfl
theorem k_563 : Cond.code y_P_inStatic b_P_inStatic 2 (some .int) ∈ zT := z_mem (List.mem_of_getElem? (i := 563) (by decide +kernel)) rfl
theorem k_564 : Cond.methodLink "PointsToRoundsLaw" 58 y_P_reached ∈ zT := z_mem (List.mem_of_getElem? (i := 564) (by decide +kernel)) rfl
theorem k_565 : Cond.instanceMethod y_P_reached ∈ zT := z_mem (List.mem_of_getElem? (i := 565) (by decide +kernel)) rfl
theorem k_566 : Cond.selects "PointsToRounds" y_P_reached y_P_reached ∈ zT := z_mem (List.mem_of_getElem? (i := 566) (by decide +kernel)) rfl
theorem k_567 : Cond.code y_P_reached b_P_reached 4 (some .int) ∈ zT := z_mem (List.mem_of_getElem? (i := 567) (by decide +kernel)) rfl
theorem k_568 : Cond.methodLink "PointsToRoundsLaw" 62 y_P_may ∈ zT := z_mem (List.mem_of_getElem? (i := 568) (by decide +kernel)) rfl
theorem k_569 : Cond.instanceMethod y_P_may ∈ zT := z_mem (List.mem_of_getElem? (i := 569) (by decide +kernel)) rfl
theorem k_570 : Cond.selects "PointsToRounds" y_P_may y_P_may ∈ zT := z_mem (List.mem_of_getElem? (i := 570) (by decide +kernel)) rfl
theorem k_571 : Cond.code y_P_may b_P_may 7 (some .int) ∈ zT := z_mem (List.mem_of_getElem? (i := 571) (by decide +kernel)) rfl
theorem k_572 : Cond.methodLink "PointsToRounds" 171 y_P_under ∈ zT := z_mem (List.mem_of_getElem? (i := 572) (by decide +kernel)) rfl
theorem k_573 : Cond.methodLink "PointsToRounds" 174 y_P_found ∈ zT := z_mem (List.mem_of_getElem? (i := 573) (by decide +kernel)) rfl
theorem k_574 : Cond.methodLink "PointsToRoundsLaw" 66 y_P_alias ∈ zT := z_mem (List.mem_of_getElem? (i := 574) (by decide +kernel)) rfl
theorem k_575 : Cond.instanceMethod y_P_alias ∈ zT := z_mem (List.mem_of_getElem? (i := 575) (by decide +kernel)) rfl
theorem k_576 : Cond.selects "PointsToRounds" y_P_alias y_P_alias ∈ zT := z_mem (List.mem_of_getElem? (i := 576) (by decide +kernel)) rfl
theorem k_577 : Cond.code y_P_alias b_P_alias 5 (some .int) ∈ zT := z_mem (List.mem_of_getElem? (i := 577) (by decide +kernel)) rfl
theorem k_578 : Cond.methodLink "PointsToRoundsLaw" 71 y_P_rounds ∈ zT := z_mem (List.mem_of_getElem? (i := 578) (by decide +kernel)) rfl
theorem k_579 : Cond.instanceMethod y_P_rounds ∈ zT := z_mem (List.mem_of_getElem? (i := 579) (by decide +kernel)) rfl
theorem k_580 : Cond.selects "PointsToRounds" y_P_rounds y_P_rounds ∈ zT := z_mem (List.mem_of_getElem? (i := 580) (by decide +kernel)) rfl
theorem k_581 : Cond.code y_P_rounds b_P_rounds 1 (some .int) ∈ zT := z_mem (List.mem_of_getElem? (i := 581) (by decide +kernel)) rfl
theorem k_582 : Cond.methodLink "PointsToRoundsLaw" 75 y_P_when ∈ zT := z_mem (List.mem_of_getElem? (i := 582) (by decide +kernel)) rfl
theorem k_583 : Cond.instanceMethod y_P_when ∈ zT := z_mem (List.mem_of_getElem? (i := 583) (by decide +kernel)) rfl
theorem k_584 : Cond.selects "PointsToRounds" y_P_when y_P_when ∈ zT := z_mem (List.mem_of_getElem? (i := 584) (by decide +kernel)) rfl
theorem k_585 : Cond.code y_P_when b_P_when 5 (some .int) ∈ zT := z_mem (List.mem_of_getElem? (i := 585) (by decide +kernel)) rfl
theorem k_586 : Cond.methodLink "PointsToRoundsLaw" 79 y_P_run ∈ zT := z_mem (List.mem_of_getElem? (i := 586) (by decide +kernel)) rfl
theorem k_587 : Cond.instanceMethod y_P_run ∈ zT := z_mem (List.mem_of_getElem? (i := 587) (by decide +kernel)) rfl
theorem k_588 : Cond.selects "PointsToRounds" y_P_run y_P_run ∈ zT := z_mem (List.mem_of_getElem? (i := 588) (by decide +kernel)) rfl
theorem k_589 : Cond.code y_P_run b_P_run 3 (some .int) ∈ zT := z_mem (List.mem_of_getElem? (i := 589) (by decide +kernel)) rfl
theorem k_590 : Cond.classLink "PointsToRounds" 183 "PointsToRounds$Run" ∈ zT := z_mem (List.mem_of_getElem? (i := 590) (by decide +kernel)) rfl
theorem k_591 : Cond.instantiable "PointsToRounds$Run" 7 ∈ zT := z_mem (List.mem_of_getElem? (i := 591) (by decide +kernel)) rfl
theorem k_592 : Cond.methodLinkNest "PointsToRounds" 185 y_Ru_init "PointsToRounds" ∈ zT := z_mem (List.mem_of_getElem? (i := 592) (by decide +kernel)) rfl
theorem k_593 : Cond.instanceMethod y_Ru_init ∈ zT := z_mem (List.mem_of_getElem? (i := 593) (by decide +kernel)) rfl
theorem k_594 : Cond.code y_Ru_init b_Ru_init 2 none ∈ zT := z_mem (List.mem_of_getElem? (i := 594) (by decide +kernel)) rfl
theorem k_595 : Cond.methodLink "PointsToRounds$Run" 9 y_Obj_init ∈ zT := z_mem (List.mem_of_getElem? (i := 595) (by decide +kernel)) rfl
theorem k_596 : Cond.classLink "PointsToRounds$Run" 15 "java/util/ArrayList" ∈ zT := z_mem (List.mem_of_getElem? (i := 596) (by decide +kernel)) rfl
theorem k_597 : Cond.methodLink "PointsToRounds$Run" 17 y_AL_init ∈ zT := z_mem (List.mem_of_getElem? (i := 597) (by decide +kernel)) rfl
theorem k_598 : Cond.classLink "PointsToRounds$Run" 22 "java/util/ArrayDeque" ∈ zT := z_mem (List.mem_of_getElem? (i := 598) (by decide +kernel)) rfl
theorem k_599 : Cond.instantiable "java/util/ArrayDeque" 3 ∈ zT := z_mem (List.mem_of_getElem? (i := 599) (by decide +kernel)) rfl
theorem k_600 : Cond.methodLink "PointsToRounds$Run" 24 y_AD_init ∈ zT := z_mem (List.mem_of_getElem? (i := 600) (by decide +kernel)) rfl
theorem k_601 : Cond.instanceMethod y_AD_init ∈ zT := z_mem (List.mem_of_getElem? (i := 601) (by decide +kernel)) rfl
theorem k_602 : Cond.code y_AD_init b_AD_init 1 none ∈ zT := z_mem (List.mem_of_getElem? (i := 602) (by decide +kernel)) rfl
theorem k_603 : Cond.methodLink "java/util/ArrayDeque" 42 y_AbC_init ∈ zT := z_mem (List.mem_of_getElem? (i := 603) (by decide +kernel)) rfl
theorem k_604 : Cond.classLink "java/util/ArrayDeque" 47 "java/lang/Object" ∈ zT := z_mem (List.mem_of_getElem? (i := 604) (by decide +kernel)) rfl
theorem k_605 : Cond.fieldLink "java/util/ArrayDeque" 3 "java/util/ArrayDeque" "elements" "[Ljava/lang/Object;" ∈ zT := z_mem (List.mem_of_getElem? (i := 605) (by decide +kernel)) rfl
theorem k_606 : Cond.fieldLink "java/util/ArrayDeque" 24 "java/util/ArrayDeque" "head" "I" ∈ zT := z_mem (List.mem_of_getElem? (i := 606) (by decide +kernel)) rfl
theorem k_607 : Cond.fieldLink "java/util/ArrayDeque" 20 "java/util/ArrayDeque" "tail" "I" ∈ zT := z_mem (List.mem_of_getElem? (i := 607) (by decide +kernel)) rfl
theorem k_615 : Cond.classLink "PointsToRounds$Run" 29 "PointsToRounds$Thing" ∈ zT := z_mem (List.mem_of_getElem? (i := 615) (by decide +kernel)) rfl
theorem k_617 : Cond.fieldLink "PointsToRounds$Run" 18 "PointsToRounds$Run" "things" "Ljava/util/List;" ∈ zT := z_mem (List.mem_of_getElem? (i := 617) (by decide +kernel)) rfl
theorem k_618 : Cond.fieldLinkNest "PointsToRounds" 196 "PointsToRounds$Run" "things" "Ljava/util/List;" "PointsToRounds" ∈ zT := z_mem (List.mem_of_getElem? (i := 618) (by decide +kernel)) rfl
theorem k_619 : Cond.fieldLink "PointsToRounds$Run" 25 "PointsToRounds$Run" "pile" "Ljava/util/ArrayDeque;" ∈ zT := z_mem (List.mem_of_getElem? (i := 619) (by decide +kernel)) rfl
theorem k_620 : Cond.fieldLinkNest "PointsToRounds" 199 "PointsToRounds$Run" "pile" "Ljava/util/ArrayDeque;" "PointsToRounds" ∈ zT := z_mem (List.mem_of_getElem? (i := 620) (by decide +kernel)) rfl
theorem k_621 : Cond.fieldLink "PointsToRounds$Run" 31 "PointsToRounds$Run" "statics" "[LPointsToRounds$Thing;" ∈ zT := z_mem (List.mem_of_getElem? (i := 621) (by decide +kernel)) rfl
theorem k_622 : Cond.fieldLink "PointsToRounds$Run" 35 "PointsToRounds$Run" "met" "[I" ∈ zT := z_mem (List.mem_of_getElem? (i := 622) (by decide +kernel)) rfl
theorem k_623 : Cond.fieldLinkNest "PointsToRounds" 193 "PointsToRounds$Run" "met" "[I" "PointsToRounds" ∈ zT := z_mem (List.mem_of_getElem? (i := 623) (by decide +kernel)) rfl
theorem k_624 : Cond.fieldLink "PointsToRounds$Run" 146 "PointsToRounds$Run" "calls" "I" ∈ zT := z_mem (List.mem_of_getElem? (i := 624) (by decide +kernel)) rfl
theorem k_625 : Cond.fieldLinkNest "PointsToRounds" 206 "PointsToRounds$Run" "calls" "I" "PointsToRounds" ∈ zT := z_mem (List.mem_of_getElem? (i := 625) (by decide +kernel)) rfl
theorem k_626 : Cond.fieldLink "PointsToRounds$Run" 39 "PointsToRounds$Run" "holds" "Z" ∈ zT := z_mem (List.mem_of_getElem? (i := 626) (by decide +kernel)) rfl
theorem k_627 : Cond.fieldLinkNest "PointsToRounds" 190 "PointsToRounds$Run" "holds" "Z" "PointsToRounds" ∈ zT := z_mem (List.mem_of_getElem? (i := 627) (by decide +kernel)) rfl
theorem k_628 : Cond.fieldLink "PointsToRounds$Run" 3 "PointsToRounds$Run" "this$0" "LPointsToRounds;" ∈ zT := z_mem (List.mem_of_getElem? (i := 628) (by decide +kernel)) rfl
theorem k_644 : Cond.methodLink "PointsToRounds" 186 y_Ru_go ∈ zT := z_mem (List.mem_of_getElem? (i := 644) (by decide +kernel)) rfl
theorem k_645 : Cond.instanceMethod y_Ru_go ∈ zT := z_mem (List.mem_of_getElem? (i := 645) (by decide +kernel)) rfl
theorem k_646 : Cond.selects "PointsToRounds$Run" y_Ru_go y_Ru_go ∈ zT := z_mem (List.mem_of_getElem? (i := 646) (by decide +kernel)) rfl
theorem k_647 : Cond.code y_Ru_go b_Ru_go 7 none ∈ zT := z_mem (List.mem_of_getElem? (i := 647) (by decide +kernel)) rfl
theorem k_648 : Cond.classLink "PointsToRounds$Run" 43 "PointsToRounds$Frame" ∈ zT := z_mem (List.mem_of_getElem? (i := 648) (by decide +kernel)) rfl
theorem k_649 : Cond.instantiable "PointsToRounds$Frame" 4 ∈ zT := z_mem (List.mem_of_getElem? (i := 649) (by decide +kernel)) rfl
theorem k_650 : Cond.methodLink "PointsToRounds$Run" 45 y_Fr_init ∈ zT := z_mem (List.mem_of_getElem? (i := 650) (by decide +kernel)) rfl
theorem k_651 : Cond.instanceMethod y_Fr_init ∈ zT := z_mem (List.mem_of_getElem? (i := 651) (by decide +kernel)) rfl
theorem k_652 : Cond.code y_Fr_init b_Fr_init 4 none ∈ zT := z_mem (List.mem_of_getElem? (i := 652) (by decide +kernel)) rfl
theorem k_653 : Cond.methodLink "PointsToRounds$Frame" 1 y_Obj_init ∈ zT := z_mem (List.mem_of_getElem? (i := 653) (by decide +kernel)) rfl
theorem k_654 : Cond.classLink "PointsToRounds$Frame" 7 "PointsToRounds$Thing" ∈ zT := z_mem (List.mem_of_getElem? (i := 654) (by decide +kernel)) rfl
theorem k_655 : Cond.fieldLink "PointsToRounds$Frame" 15 "PointsToRounds$Frame" "method" "I" ∈ zT := z_mem (List.mem_of_getElem? (i := 655) (by decide +kernel)) rfl
theorem k_656 : Cond.fieldLinkNest "PointsToRounds$Run" 61 "PointsToRounds$Frame" "method" "I" "PointsToRounds" ∈ zT := z_mem (List.mem_of_getElem? (i := 656) (by decide +kernel)) rfl
theorem k_657 : Cond.fieldLink "PointsToRounds$Frame" 19 "PointsToRounds$Frame" "context" "I" ∈ zT := z_mem (List.mem_of_getElem? (i := 657) (by decide +kernel)) rfl
theorem k_658 : Cond.fieldLinkNest "PointsToRounds$Run" 167 "PointsToRounds$Frame" "context" "I" "PointsToRounds" ∈ zT := z_mem (List.mem_of_getElem? (i := 658) (by decide +kernel)) rfl
theorem k_659 : Cond.fieldLink "PointsToRounds$Frame" 22 "PointsToRounds$Frame" "by" "LPointsToRounds$Statement;" ∈ zT := z_mem (List.mem_of_getElem? (i := 659) (by decide +kernel)) rfl
theorem k_660 : Cond.fieldLinkNest "PointsToRounds$Run" 94 "PointsToRounds$Frame" "by" "LPointsToRounds$Statement;" "PointsToRounds" ∈ zT := z_mem (List.mem_of_getElem? (i := 660) (by decide +kernel)) rfl
theorem k_661 : Cond.fieldLink "PointsToRounds$Frame" 9 "PointsToRounds$Frame" "names" "[LPointsToRounds$Thing;" ∈ zT := z_mem (List.mem_of_getElem? (i := 661) (by decide +kernel)) rfl
theorem k_662 : Cond.fieldLinkNest "PointsToRounds$Run" 91 "PointsToRounds$Frame" "names" "[LPointsToRounds$Thing;" "PointsToRounds" ∈ zT := z_mem (List.mem_of_getElem? (i := 662) (by decide +kernel)) rfl
theorem k_672 : Cond.methodLink "PointsToRounds$Run" 48 y_AD_push ∈ zT := z_mem (List.mem_of_getElem? (i := 672) (by decide +kernel)) rfl
theorem k_673 : Cond.instanceMethod y_AD_push ∈ zT := z_mem (List.mem_of_getElem? (i := 673) (by decide +kernel)) rfl
theorem k_674 : Cond.selects "java/util/ArrayDeque" y_AD_push y_AD_push ∈ zT := z_mem (List.mem_of_getElem? (i := 674) (by decide +kernel)) rfl
theorem k_675 : Cond.code y_AD_push b_AD_push 2 none ∈ zT := z_mem (List.mem_of_getElem? (i := 675) (by decide +kernel)) rfl
theorem k_676 : Cond.methodLink "java/util/ArrayDeque" 86 y_AD_addFirst ∈ zT := z_mem (List.mem_of_getElem? (i := 676) (by decide +kernel)) rfl
theorem k_677 : Cond.instanceMethod y_AD_addFirst ∈ zT := z_mem (List.mem_of_getElem? (i := 677) (by decide +kernel)) rfl
theorem k_678 : Cond.selects "java/util/ArrayDeque" y_AD_addFirst y_AD_addFirst ∈ zT := z_mem (List.mem_of_getElem? (i := 678) (by decide +kernel)) rfl
theorem k_679 : Cond.code y_AD_addFirst b_AD_addFirst 3 none ∈ zT := z_mem (List.mem_of_getElem? (i := 679) (by decide +kernel)) rfl
theorem k_680 : Cond.methodLink "java/util/ArrayDeque" 68 y_AD_dec ∈ zT := z_mem (List.mem_of_getElem? (i := 680) (by decide +kernel)) rfl
theorem k_681 : Cond.static y_AD_dec ∈ zT := z_mem (List.mem_of_getElem? (i := 681) (by decide +kernel)) rfl
theorem k_682 : Cond.code y_AD_dec b_AD_dec 2 (some .int) ∈ zT := z_mem (List.mem_of_getElem? (i := 682) (by decide +kernel)) rfl
theorem k_683 : Cond.methodLink "java/util/ArrayDeque" 71 y_AD_grow ∈ zT := z_mem (List.mem_of_getElem? (i := 683) (by decide +kernel)) rfl
theorem k_685 : Cond.instanceMethod y_AD_grow ∈ zT := z_mem (List.mem_of_getElem? (i := 685) (by decide +kernel)) rfl
theorem k_686 : Cond.code y_AD_grow b_AD_grow 9 none ∈ zT := z_mem (List.mem_of_getElem? (i := 686) (by decide +kernel)) rfl
theorem k_687 : Cond.constant "java/util/ArrayDeque" 9 2147483639 ∈ zT := z_mem (List.mem_of_getElem? (i := 687) (by decide +kernel)) rfl
theorem k_688 : Cond.methodLink "java/util/ArrayDeque" 10 y_AD_newCapacity ∈ zT := z_mem (List.mem_of_getElem? (i := 688) (by decide +kernel)) rfl
theorem k_690 : Cond.instanceMethod y_AD_newCapacity ∈ zT := z_mem (List.mem_of_getElem? (i := 690) (by decide +kernel)) rfl
theorem k_691 : Cond.code y_AD_newCapacity b_AD_newCapacity 5 (some .int) ∈ zT := z_mem (List.mem_of_getElem? (i := 691) (by decide +kernel)) rfl
theorem k_692 : Cond.constant "java/util/ArrayDeque" 41 2147483647 ∈ zT := z_mem (List.mem_of_getElem? (i := 692) (by decide +kernel)) rfl
theorem k_693 : Cond.methodLink "java/util/ArrayDeque" 14 y_Ars_copyOf0 ∈ zT := z_mem (List.mem_of_getElem? (i := 693) (by decide +kernel)) rfl
theorem k_694 : Cond.methodLink "java/util/ArrayDeque" 27 ⟨"java/lang/System", "arraycopy", "(Ljava/lang/Object;ILjava/lang/Object;II)V"⟩ ∈ zT := z_mem (List.mem_of_getElem? (i := 694) (by decide +kernel)) rfl
theorem k_695 : Cond.constant "PointsToRounds$Run" 52 1664525 ∈ zT := z_mem (List.mem_of_getElem? (i := 695) (by decide +kernel)) rfl
theorem k_696 : Cond.constant "PointsToRounds$Run" 53 1013904223 ∈ zT := z_mem (List.mem_of_getElem? (i := 696) (by decide +kernel)) rfl
theorem k_697 : Cond.methodLink "PointsToRounds$Run" 57 y_AD_peek ∈ zT := z_mem (List.mem_of_getElem? (i := 697) (by decide +kernel)) rfl
theorem k_698 : Cond.instanceMethod y_AD_peek ∈ zT := z_mem (List.mem_of_getElem? (i := 698) (by decide +kernel)) rfl
theorem k_699 : Cond.selects "java/util/ArrayDeque" y_AD_peek y_AD_peek ∈ zT := z_mem (List.mem_of_getElem? (i := 699) (by decide +kernel)) rfl
theorem k_700 : Cond.code y_AD_peek b_AD_peek 1 (some (.object "java/lang/Object")) ∈ zT := z_mem (List.mem_of_getElem? (i := 700) (by decide +kernel)) rfl
theorem k_701 : Cond.methodLink "java/util/ArrayDeque" 124 y_AD_peekFirst ∈ zT := z_mem (List.mem_of_getElem? (i := 701) (by decide +kernel)) rfl
theorem k_702 : Cond.instanceMethod y_AD_peekFirst ∈ zT := z_mem (List.mem_of_getElem? (i := 702) (by decide +kernel)) rfl
theorem k_703 : Cond.selects "java/util/ArrayDeque" y_AD_peekFirst y_AD_peekFirst ∈ zT := z_mem (List.mem_of_getElem? (i := 703) (by decide +kernel)) rfl
theorem k_704 : Cond.code y_AD_peekFirst b_AD_peekFirst 1 (some (.object "java/lang/Object")) ∈ zT := z_mem (List.mem_of_getElem? (i := 704) (by decide +kernel)) rfl
theorem k_705 : Cond.methodLink "java/util/ArrayDeque" 103 y_AD_elementAt ∈ zT := z_mem (List.mem_of_getElem? (i := 705) (by decide +kernel)) rfl
theorem k_706 : Cond.static y_AD_elementAt ∈ zT := z_mem (List.mem_of_getElem? (i := 706) (by decide +kernel)) rfl
theorem k_707 : Cond.code y_AD_elementAt b_AD_elementAt 2 (some (.object "java/lang/Object")) ∈ zT := z_mem (List.mem_of_getElem? (i := 707) (by decide +kernel)) rfl
theorem k_709 : Cond.methodLink "PointsToRounds$Run" 65 ⟨"java/util/List", "get", "(I)Ljava/lang/Object;"⟩ ∈ zT := z_mem (List.mem_of_getElem? (i := 709) (by decide +kernel)) rfl
theorem k_710 : Cond.classLink "PointsToRounds$Run" 66 "java/util/List" ∈ zT := z_mem (List.mem_of_getElem? (i := 710) (by decide +kernel)) rfl
theorem k_712 : Cond.methodLink "PointsToRounds$Run" 71 ⟨"java/util/List", "size", "()I"⟩ ∈ zT := z_mem (List.mem_of_getElem? (i := 712) (by decide +kernel)) rfl
theorem k_713 : Cond.classLink "PointsToRounds$Run" 75 "PointsToRounds$Statement" ∈ zT := z_mem (List.mem_of_getElem? (i := 713) (by decide +kernel)) rfl
theorem k_714 : Cond.methodLink "PointsToRounds$Run" 77 y_Ru_act ∈ zT := z_mem (List.mem_of_getElem? (i := 714) (by decide +kernel)) rfl
theorem k_716 : Cond.instanceMethod y_Ru_act ∈ zT := z_mem (List.mem_of_getElem? (i := 716) (by decide +kernel)) rfl
theorem k_717 : Cond.code y_Ru_act b_Ru_act 4 none ∈ zT := z_mem (List.mem_of_getElem? (i := 717) (by decide +kernel)) rfl
theorem k_718 : Cond.instantiable "PointsToRounds$Thing" 3 ∈ zT := z_mem (List.mem_of_getElem? (i := 718) (by decide +kernel)) rfl
theorem k_719 : Cond.methodLink "PointsToRounds$Run" 110 y_Th_init ∈ zT := z_mem (List.mem_of_getElem? (i := 719) (by decide +kernel)) rfl
theorem k_720 : Cond.instanceMethod y_Th_init ∈ zT := z_mem (List.mem_of_getElem? (i := 720) (by decide +kernel)) rfl
theorem k_721 : Cond.code y_Th_init b_Th_init 2 none ∈ zT := z_mem (List.mem_of_getElem? (i := 721) (by decide +kernel)) rfl
theorem k_722 : Cond.methodLink "PointsToRounds$Thing" 1 y_Obj_init ∈ zT := z_mem (List.mem_of_getElem? (i := 722) (by decide +kernel)) rfl
theorem k_723 : Cond.classLink "PointsToRounds$Thing" 7 "PointsToRounds$Thing" ∈ zT := z_mem (List.mem_of_getElem? (i := 723) (by decide +kernel)) rfl
theorem k_724 : Cond.fieldLink "PointsToRounds$Thing" 13 "PointsToRounds$Thing" "site" "I" ∈ zT := z_mem (List.mem_of_getElem? (i := 724) (by decide +kernel)) rfl
theorem k_725 : Cond.fieldLinkNest "PointsToRounds$Run" 117 "PointsToRounds$Thing" "site" "I" "PointsToRounds" ∈ zT := z_mem (List.mem_of_getElem? (i := 725) (by decide +kernel)) rfl
theorem k_726 : Cond.fieldLink "PointsToRounds$Thing" 9 "PointsToRounds$Thing" "fields" "[LPointsToRounds$Thing;" ∈ zT := z_mem (List.mem_of_getElem? (i := 726) (by decide +kernel)) rfl
theorem k_727 : Cond.fieldLinkNest "PointsToRounds$Run" 125 "PointsToRounds$Thing" "fields" "[LPointsToRounds$Thing;" "PointsToRounds" ∈ zT := z_mem (List.mem_of_getElem? (i := 727) (by decide +kernel)) rfl
theorem k_728 : Cond.fieldLinkNest "PointsToRounds$Run" 138 "PointsToRounds$Thing" "element" "LPointsToRounds$Thing;" "PointsToRounds" ∈ zT := z_mem (List.mem_of_getElem? (i := 728) (by decide +kernel)) rfl
theorem k_737 : Cond.methodLink "PointsToRounds$Run" 113 ⟨"java/util/List", "add", "(Ljava/lang/Object;)Z"⟩ ∈ zT := z_mem (List.mem_of_getElem? (i := 737) (by decide +kernel)) rfl
theorem k_738 : Cond.methodLinkNest "PointsToRounds$Run" 121 y_P_hasField "PointsToRounds" ∈ zT := z_mem (List.mem_of_getElem? (i := 738) (by decide +kernel)) rfl
theorem k_739 : Cond.methodLinkNest "PointsToRounds$Run" 131 y_P_isUnder "PointsToRounds" ∈ zT := z_mem (List.mem_of_getElem? (i := 739) (by decide +kernel)) rfl
theorem k_740 : Cond.methodLink "PointsToRounds$Run" 134 y_Ru_call ∈ zT := z_mem (List.mem_of_getElem? (i := 740) (by decide +kernel)) rfl
theorem k_742 : Cond.instanceMethod y_Ru_call ∈ zT := z_mem (List.mem_of_getElem? (i := 742) (by decide +kernel)) rfl
theorem k_743 : Cond.code y_Ru_call b_Ru_call 6 none ∈ zT := z_mem (List.mem_of_getElem? (i := 743) (by decide +kernel)) rfl
theorem k_744 : Cond.methodLink "PointsToRounds$Run" 81 y_AD_size ∈ zT := z_mem (List.mem_of_getElem? (i := 744) (by decide +kernel)) rfl
theorem k_745 : Cond.instanceMethod y_AD_size ∈ zT := z_mem (List.mem_of_getElem? (i := 745) (by decide +kernel)) rfl
theorem k_746 : Cond.selects "java/util/ArrayDeque" y_AD_size y_AD_size ∈ zT := z_mem (List.mem_of_getElem? (i := 746) (by decide +kernel)) rfl
theorem k_747 : Cond.code y_AD_size b_AD_size 1 (some .int) ∈ zT := z_mem (List.mem_of_getElem? (i := 747) (by decide +kernel)) rfl
theorem k_748 : Cond.methodLink "java/util/ArrayDeque" 127 y_AD_sub ∈ zT := z_mem (List.mem_of_getElem? (i := 748) (by decide +kernel)) rfl
theorem k_749 : Cond.static y_AD_sub ∈ zT := z_mem (List.mem_of_getElem? (i := 749) (by decide +kernel)) rfl
theorem k_750 : Cond.code y_AD_sub b_AD_sub 3 (some .int) ∈ zT := z_mem (List.mem_of_getElem? (i := 750) (by decide +kernel)) rfl
theorem k_751 : Cond.methodLinkNest "PointsToRounds$Run" 142 y_P_found "PointsToRounds" ∈ zT := z_mem (List.mem_of_getElem? (i := 751) (by decide +kernel)) rfl
theorem k_752 : Cond.methodLink "PointsToRounds$Run" 82 y_Ru_give ∈ zT := z_mem (List.mem_of_getElem? (i := 752) (by decide +kernel)) rfl
theorem k_754 : Cond.instanceMethod y_Ru_give ∈ zT := z_mem (List.mem_of_getElem? (i := 754) (by decide +kernel)) rfl
theorem k_755 : Cond.code y_Ru_give b_Ru_give 2 none ∈ zT := z_mem (List.mem_of_getElem? (i := 755) (by decide +kernel)) rfl
theorem k_756 : Cond.methodLink "PointsToRounds$Run" 88 y_AD_pop ∈ zT := z_mem (List.mem_of_getElem? (i := 756) (by decide +kernel)) rfl
theorem k_757 : Cond.instanceMethod y_AD_pop ∈ zT := z_mem (List.mem_of_getElem? (i := 757) (by decide +kernel)) rfl
theorem k_758 : Cond.selects "java/util/ArrayDeque" y_AD_pop y_AD_pop ∈ zT := z_mem (List.mem_of_getElem? (i := 758) (by decide +kernel)) rfl
theorem k_759 : Cond.code y_AD_pop b_AD_pop 1 (some (.object "java/lang/Object")) ∈ zT := z_mem (List.mem_of_getElem? (i := 759) (by decide +kernel)) rfl
theorem k_760 : Cond.methodLink "java/util/ArrayDeque" 118 y_AD_removeFirst ∈ zT := z_mem (List.mem_of_getElem? (i := 760) (by decide +kernel)) rfl
theorem k_761 : Cond.instanceMethod y_AD_removeFirst ∈ zT := z_mem (List.mem_of_getElem? (i := 761) (by decide +kernel)) rfl
theorem k_762 : Cond.selects "java/util/ArrayDeque" y_AD_removeFirst y_AD_removeFirst ∈ zT := z_mem (List.mem_of_getElem? (i := 762) (by decide +kernel)) rfl
theorem k_763 : Cond.code y_AD_removeFirst b_AD_removeFirst 2 (some (.object "java/lang/Object")) ∈ zT := z_mem (List.mem_of_getElem? (i := 763) (by decide +kernel)) rfl
theorem k_764 : Cond.methodLink "java/util/ArrayDeque" 93 y_AD_pollFirst ∈ zT := z_mem (List.mem_of_getElem? (i := 764) (by decide +kernel)) rfl
theorem k_765 : Cond.instanceMethod y_AD_pollFirst ∈ zT := z_mem (List.mem_of_getElem? (i := 765) (by decide +kernel)) rfl
theorem k_766 : Cond.selects "java/util/ArrayDeque" y_AD_pollFirst y_AD_pollFirst ∈ zT := z_mem (List.mem_of_getElem? (i := 766) (by decide +kernel)) rfl
theorem k_767 : Cond.code y_AD_pollFirst b_AD_pollFirst 4 (some (.object "java/lang/Object")) ∈ zT := z_mem (List.mem_of_getElem? (i := 767) (by decide +kernel)) rfl
theorem k_768 : Cond.methodLink "java/util/ArrayDeque" 74 y_AD_inc ∈ zT := z_mem (List.mem_of_getElem? (i := 768) (by decide +kernel)) rfl
theorem k_769 : Cond.static y_AD_inc ∈ zT := z_mem (List.mem_of_getElem? (i := 769) (by decide +kernel)) rfl
theorem k_770 : Cond.code y_AD_inc b_AD_inc 2 (some .int) ∈ zT := z_mem (List.mem_of_getElem? (i := 770) (by decide +kernel)) rfl
theorem k_771 : Cond.methodLink "PointsToRounds$Run" 85 y_Ru_look ∈ zT := z_mem (List.mem_of_getElem? (i := 771) (by decide +kernel)) rfl
theorem k_773 : Cond.instanceMethod y_Ru_look ∈ zT := z_mem (List.mem_of_getElem? (i := 773) (by decide +kernel)) rfl
theorem k_774 : Cond.code y_Ru_look b_Ru_look 6 none ∈ zT := z_mem (List.mem_of_getElem? (i := 774) (by decide +kernel)) rfl
theorem k_775 : Cond.methodLink "PointsToRounds$Run" 170 y_Se_body ∈ zT := z_mem (List.mem_of_getElem? (i := 775) (by decide +kernel)) rfl
theorem k_776 : Cond.methodLink "PointsToRounds$Run" 176 y_Bo_name ∈ zT := z_mem (List.mem_of_getElem? (i := 776) (by decide +kernel)) rfl
theorem k_777 : Cond.methodLink "PointsToRounds$Run" 182 y_Ru_is ∈ zT := z_mem (List.mem_of_getElem? (i := 777) (by decide +kernel)) rfl
theorem k_779 : Cond.instanceMethod y_Ru_is ∈ zT := z_mem (List.mem_of_getElem? (i := 779) (by decide +kernel)) rfl
theorem k_780 : Cond.code y_Ru_is b_Ru_is 3 none ∈ zT := z_mem (List.mem_of_getElem? (i := 780) (by decide +kernel)) rfl
theorem k_781 : Cond.classLink "PointsToRounds$Run" 159 "PointsToRounds$Cell" ∈ zT := z_mem (List.mem_of_getElem? (i := 781) (by decide +kernel)) rfl
theorem k_782 : Cond.methodLink "PointsToRounds$Run" 193 y_Se_field ∈ zT := z_mem (List.mem_of_getElem? (i := 782) (by decide +kernel)) rfl
theorem k_783 : Cond.methodLink "PointsToRoundsLaw" 83 y_P_met ∈ zT := z_mem (List.mem_of_getElem? (i := 783) (by decide +kernel)) rfl
theorem k_784 : Cond.instanceMethod y_P_met ∈ zT := z_mem (List.mem_of_getElem? (i := 784) (by decide +kernel)) rfl
theorem k_785 : Cond.selects "PointsToRounds" y_P_met y_P_met ∈ zT := z_mem (List.mem_of_getElem? (i := 785) (by decide +kernel)) rfl
theorem k_786 : Cond.code y_P_met b_P_met 3 (some .int) ∈ zT := z_mem (List.mem_of_getElem? (i := 786) (by decide +kernel)) rfl
theorem k_787 : Cond.methodLink "PointsToRoundsLaw" 87 y_P_ran ∈ zT := z_mem (List.mem_of_getElem? (i := 787) (by decide +kernel)) rfl
theorem k_788 : Cond.instanceMethod y_P_ran ∈ zT := z_mem (List.mem_of_getElem? (i := 788) (by decide +kernel)) rfl
theorem k_789 : Cond.selects "PointsToRounds" y_P_ran y_P_ran ∈ zT := z_mem (List.mem_of_getElem? (i := 789) (by decide +kernel)) rfl
theorem k_790 : Cond.code y_P_ran b_P_ran 2 (some .int) ∈ zT := z_mem (List.mem_of_getElem? (i := 790) (by decide +kernel)) rfl
theorem k_791 : Cond.methodLink "PointsToRounds" 203 y_AD_size ∈ zT := z_mem (List.mem_of_getElem? (i := 791) (by decide +kernel)) rfl
theorem k_792 : Cond.classLink "PointsToRoundsLaw" 10 "PointsToRoundsModel" ∈ zT := z_mem (List.mem_of_getElem? (i := 792) (by decide +kernel)) rfl
theorem k_793 : Cond.instantiable "PointsToRoundsModel" 44 ∈ zT := z_mem (List.mem_of_getElem? (i := 793) (by decide +kernel)) rfl
theorem k_794 : Cond.methodLink "PointsToRoundsLaw" 12 y_M_init ∈ zT := z_mem (List.mem_of_getElem? (i := 794) (by decide +kernel)) rfl
theorem k_795 : Cond.instanceMethod y_M_init ∈ zT := z_mem (List.mem_of_getElem? (i := 795) (by decide +kernel)) rfl
theorem k_796 : Cond.code y_M_init b_M_init 1 none ∈ zT := z_mem (List.mem_of_getElem? (i := 796) (by decide +kernel)) rfl
theorem k_797 : Cond.methodLink "PointsToRoundsModel" 1 y_Obj_init ∈ zT := z_mem (List.mem_of_getElem? (i := 797) (by decide +kernel)) rfl
theorem k_798 : Cond.fieldLink "PointsToRoundsModel" 109 "PointsToRoundsModel" "classes" "I" ∈ zT := z_mem (List.mem_of_getElem? (i := 798) (by decide +kernel)) rfl
theorem k_799 : Cond.fieldLink "PointsToRoundsModel" 7 "PointsToRoundsModel" "parents" "[I" ∈ zT := z_mem (List.mem_of_getElem? (i := 799) (by decide +kernel)) rfl
theorem k_800 : Cond.fieldLink "PointsToRoundsModel" 113 "PointsToRoundsModel" "fields" "I" ∈ zT := z_mem (List.mem_of_getElem? (i := 800) (by decide +kernel)) rfl
theorem k_801 : Cond.fieldLink "PointsToRoundsModel" 13 "PointsToRoundsModel" "fieldOf" "[I" ∈ zT := z_mem (List.mem_of_getElem? (i := 801) (by decide +kernel)) rfl
theorem k_802 : Cond.fieldLink "PointsToRoundsModel" 116 "PointsToRoundsModel" "methods" "I" ∈ zT := z_mem (List.mem_of_getElem? (i := 802) (by decide +kernel)) rfl
theorem k_803 : Cond.fieldLink "PointsToRoundsModel" 16 "PointsToRoundsModel" "methodOf" "[I" ∈ zT := z_mem (List.mem_of_getElem? (i := 803) (by decide +kernel)) rfl
theorem k_804 : Cond.fieldLink "PointsToRoundsModel" 19 "PointsToRoundsModel" "signatures" "[I" ∈ zT := z_mem (List.mem_of_getElem? (i := 804) (by decide +kernel)) rfl
theorem k_805 : Cond.fieldLink "PointsToRoundsModel" 157 "PointsToRoundsModel" "statements" "I" ∈ zT := z_mem (List.mem_of_getElem? (i := 805) (by decide +kernel)) rfl
theorem k_806 : Cond.fieldLink "PointsToRoundsModel" 22 "PointsToRoundsModel" "owner" "[I" ∈ zT := z_mem (List.mem_of_getElem? (i := 806) (by decide +kernel)) rfl
theorem k_807 : Cond.fieldLink "PointsToRoundsModel" 25 "PointsToRoundsModel" "kinds" "[I" ∈ zT := z_mem (List.mem_of_getElem? (i := 807) (by decide +kernel)) rfl
theorem k_808 : Cond.fieldLink "PointsToRoundsModel" 28 "PointsToRoundsModel" "pOf" "[I" ∈ zT := z_mem (List.mem_of_getElem? (i := 808) (by decide +kernel)) rfl
theorem k_809 : Cond.fieldLink "PointsToRoundsModel" 31 "PointsToRoundsModel" "qOf" "[I" ∈ zT := z_mem (List.mem_of_getElem? (i := 809) (by decide +kernel)) rfl
theorem k_810 : Cond.fieldLink "PointsToRoundsModel" 34 "PointsToRoundsModel" "rOf" "[I" ∈ zT := z_mem (List.mem_of_getElem? (i := 810) (by decide +kernel)) rfl
theorem k_811 : Cond.fieldLink "PointsToRoundsModel" 37 "PointsToRoundsModel" "sOf" "[I" ∈ zT := z_mem (List.mem_of_getElem? (i := 811) (by decide +kernel)) rfl
theorem k_812 : Cond.fieldLink "PointsToRoundsModel" 40 "PointsToRoundsModel" "tOf" "[I" ∈ zT := z_mem (List.mem_of_getElem? (i := 812) (by decide +kernel)) rfl
theorem k_813 : Cond.fieldLink "PointsToRoundsModel" 43 "PointsToRoundsModel" "siteOf" "[I" ∈ zT := z_mem (List.mem_of_getElem? (i := 813) (by decide +kernel)) rfl
theorem k_814 : Cond.fieldLink "PointsToRoundsModel" 160 "PointsToRoundsModel" "sites" "I" ∈ zT := z_mem (List.mem_of_getElem? (i := 814) (by decide +kernel)) rfl
theorem k_815 : Cond.fieldLink "PointsToRoundsModel" 46 "PointsToRoundsModel" "siteClass" "[I" ∈ zT := z_mem (List.mem_of_getElem? (i := 815) (by decide +kernel)) rfl
theorem k_816 : Cond.fieldLink "PointsToRoundsModel" 163 "PointsToRoundsModel" "mode" "I" ∈ zT := z_mem (List.mem_of_getElem? (i := 816) (by decide +kernel)) rfl
theorem k_817 : Cond.fieldLink "PointsToRoundsModel" 127 "PointsToRoundsModel" "known" "Z" ∈ zT := z_mem (List.mem_of_getElem? (i := 817) (by decide +kernel)) rfl
theorem k_818 : Cond.fieldLink "PointsToRoundsModel" 49 "PointsToRoundsModel" "nameNow" "[I" ∈ zT := z_mem (List.mem_of_getElem? (i := 818) (by decide +kernel)) rfl
theorem k_819 : Cond.fieldLink "PointsToRoundsModel" 52 "PointsToRoundsModel" "nameThen" "[I" ∈ zT := z_mem (List.mem_of_getElem? (i := 819) (by decide +kernel)) rfl
theorem k_820 : Cond.fieldLink "PointsToRoundsModel" 55 "PointsToRoundsModel" "fieldNow" "[I" ∈ zT := z_mem (List.mem_of_getElem? (i := 820) (by decide +kernel)) rfl
theorem k_821 : Cond.fieldLink "PointsToRoundsModel" 58 "PointsToRoundsModel" "fieldThen" "[I" ∈ zT := z_mem (List.mem_of_getElem? (i := 821) (by decide +kernel)) rfl
theorem k_822 : Cond.fieldLink "PointsToRoundsModel" 61 "PointsToRoundsModel" "elementNow" "[I" ∈ zT := z_mem (List.mem_of_getElem? (i := 822) (by decide +kernel)) rfl
theorem k_823 : Cond.fieldLink "PointsToRoundsModel" 64 "PointsToRoundsModel" "elementThen" "[I" ∈ zT := z_mem (List.mem_of_getElem? (i := 823) (by decide +kernel)) rfl
theorem k_824 : Cond.fieldLink "PointsToRoundsModel" 67 "PointsToRoundsModel" "staticNow" "[I" ∈ zT := z_mem (List.mem_of_getElem? (i := 824) (by decide +kernel)) rfl
theorem k_825 : Cond.fieldLink "PointsToRoundsModel" 70 "PointsToRoundsModel" "staticThen" "[I" ∈ zT := z_mem (List.mem_of_getElem? (i := 825) (by decide +kernel)) rfl
theorem k_826 : Cond.fieldLink "PointsToRoundsModel" 73 "PointsToRoundsModel" "reachNow" "[I" ∈ zT := z_mem (List.mem_of_getElem? (i := 826) (by decide +kernel)) rfl
theorem k_827 : Cond.fieldLink "PointsToRoundsModel" 76 "PointsToRoundsModel" "reachThen" "[I" ∈ zT := z_mem (List.mem_of_getElem? (i := 827) (by decide +kernel)) rfl
theorem k_828 : Cond.fieldLink "PointsToRoundsModel" 79 "PointsToRoundsModel" "whenOf" "[I" ∈ zT := z_mem (List.mem_of_getElem? (i := 828) (by decide +kernel)) rfl
theorem k_829 : Cond.fieldLink "PointsToRoundsModel" 189 "PointsToRoundsModel" "last" "I" ∈ zT := z_mem (List.mem_of_getElem? (i := 829) (by decide +kernel)) rfl
theorem k_830 : Cond.fieldLink "PointsToRoundsModel" 219 "PointsToRoundsModel" "objects" "I" ∈ zT := z_mem (List.mem_of_getElem? (i := 830) (by decide +kernel)) rfl
theorem k_831 : Cond.fieldLink "PointsToRoundsModel" 82 "PointsToRoundsModel" "objectSite" "[I" ∈ zT := z_mem (List.mem_of_getElem? (i := 831) (by decide +kernel)) rfl
theorem k_832 : Cond.fieldLink "PointsToRoundsModel" 85 "PointsToRoundsModel" "objectField" "[I" ∈ zT := z_mem (List.mem_of_getElem? (i := 832) (by decide +kernel)) rfl
theorem k_833 : Cond.fieldLink "PointsToRoundsModel" 88 "PointsToRoundsModel" "objectElement" "[I" ∈ zT := z_mem (List.mem_of_getElem? (i := 833) (by decide +kernel)) rfl
theorem k_834 : Cond.fieldLink "PointsToRoundsModel" 91 "PointsToRoundsModel" "statics" "[I" ∈ zT := z_mem (List.mem_of_getElem? (i := 834) (by decide +kernel)) rfl
theorem k_835 : Cond.fieldLink "PointsToRoundsModel" 222 "PointsToRoundsModel" "frames" "I" ∈ zT := z_mem (List.mem_of_getElem? (i := 835) (by decide +kernel)) rfl
theorem k_836 : Cond.fieldLink "PointsToRoundsModel" 94 "PointsToRoundsModel" "frameMethod" "[I" ∈ zT := z_mem (List.mem_of_getElem? (i := 836) (by decide +kernel)) rfl
theorem k_837 : Cond.fieldLink "PointsToRoundsModel" 97 "PointsToRoundsModel" "frameContext" "[I" ∈ zT := z_mem (List.mem_of_getElem? (i := 837) (by decide +kernel)) rfl
theorem k_838 : Cond.fieldLink "PointsToRoundsModel" 100 "PointsToRoundsModel" "frameTo" "[I" ∈ zT := z_mem (List.mem_of_getElem? (i := 838) (by decide +kernel)) rfl
theorem k_839 : Cond.fieldLink "PointsToRoundsModel" 103 "PointsToRoundsModel" "frameName" "[I" ∈ zT := z_mem (List.mem_of_getElem? (i := 839) (by decide +kernel)) rfl
theorem k_840 : Cond.fieldLink "PointsToRoundsModel" 106 "PointsToRoundsModel" "metOf" "[I" ∈ zT := z_mem (List.mem_of_getElem? (i := 840) (by decide +kernel)) rfl
theorem k_841 : Cond.fieldLink "PointsToRoundsModel" 225 "PointsToRoundsModel" "calls" "I" ∈ zT := z_mem (List.mem_of_getElem? (i := 841) (by decide +kernel)) rfl
theorem k_931 : Cond.methodLink "PointsToRoundsLaw" 17 y_M_cls ∈ zT := z_mem (List.mem_of_getElem? (i := 931) (by decide +kernel)) rfl
theorem k_932 : Cond.instanceMethod y_M_cls ∈ zT := z_mem (List.mem_of_getElem? (i := 932) (by decide +kernel)) rfl
theorem k_933 : Cond.selects "PointsToRoundsModel" y_M_cls y_M_cls ∈ zT := z_mem (List.mem_of_getElem? (i := 933) (by decide +kernel)) rfl
theorem k_934 : Cond.code y_M_cls b_M_cls 2 (some .int) ∈ zT := z_mem (List.mem_of_getElem? (i := 934) (by decide +kernel)) rfl
theorem k_935 : Cond.methodLink "PointsToRoundsModel" 134 y_M_change ∈ zT := z_mem (List.mem_of_getElem? (i := 935) (by decide +kernel)) rfl
theorem k_937 : Cond.instanceMethod y_M_change ∈ zT := z_mem (List.mem_of_getElem? (i := 937) (by decide +kernel)) rfl
theorem k_938 : Cond.code y_M_change b_M_change 1 none ∈ zT := z_mem (List.mem_of_getElem? (i := 938) (by decide +kernel)) rfl
theorem k_939 : Cond.methodLink "PointsToRoundsModel" 131 y_M_forgetRun ∈ zT := z_mem (List.mem_of_getElem? (i := 939) (by decide +kernel)) rfl
theorem k_941 : Cond.instanceMethod y_M_forgetRun ∈ zT := z_mem (List.mem_of_getElem? (i := 941) (by decide +kernel)) rfl
theorem k_942 : Cond.code y_M_forgetRun b_M_forgetRun 2 none ∈ zT := z_mem (List.mem_of_getElem? (i := 942) (by decide +kernel)) rfl
theorem k_943 : Cond.methodLink "PointsToRoundsLaw" 21 y_M_field ∈ zT := z_mem (List.mem_of_getElem? (i := 943) (by decide +kernel)) rfl
theorem k_944 : Cond.instanceMethod y_M_field ∈ zT := z_mem (List.mem_of_getElem? (i := 944) (by decide +kernel)) rfl
theorem k_945 : Cond.selects "PointsToRoundsModel" y_M_field y_M_field ∈ zT := z_mem (List.mem_of_getElem? (i := 945) (by decide +kernel)) rfl
theorem k_946 : Cond.code y_M_field b_M_field 2 (some .int) ∈ zT := z_mem (List.mem_of_getElem? (i := 946) (by decide +kernel)) rfl
theorem k_947 : Cond.methodLink "PointsToRoundsModel" 137 y_M_isClass ∈ zT := z_mem (List.mem_of_getElem? (i := 947) (by decide +kernel)) rfl
theorem k_949 : Cond.instanceMethod y_M_isClass ∈ zT := z_mem (List.mem_of_getElem? (i := 949) (by decide +kernel)) rfl
theorem k_950 : Cond.code y_M_isClass b_M_isClass 2 (some .boolean) ∈ zT := z_mem (List.mem_of_getElem? (i := 950) (by decide +kernel)) rfl
theorem k_951 : Cond.methodLink "PointsToRoundsLaw" 26 y_M_method ∈ zT := z_mem (List.mem_of_getElem? (i := 951) (by decide +kernel)) rfl
theorem k_952 : Cond.instanceMethod y_M_method ∈ zT := z_mem (List.mem_of_getElem? (i := 952) (by decide +kernel)) rfl
theorem k_953 : Cond.selects "PointsToRoundsModel" y_M_method y_M_method ∈ zT := z_mem (List.mem_of_getElem? (i := 953) (by decide +kernel)) rfl
theorem k_954 : Cond.code y_M_method b_M_method 3 (some .int) ∈ zT := z_mem (List.mem_of_getElem? (i := 954) (by decide +kernel)) rfl
theorem k_955 : Cond.methodLink "PointsToRoundsModel" 123 y_M_methodWith ∈ zT := z_mem (List.mem_of_getElem? (i := 955) (by decide +kernel)) rfl
theorem k_957 : Cond.instanceMethod y_M_methodWith ∈ zT := z_mem (List.mem_of_getElem? (i := 957) (by decide +kernel)) rfl
theorem k_958 : Cond.code y_M_methodWith b_M_methodWith 4 (some .int) ∈ zT := z_mem (List.mem_of_getElem? (i := 958) (by decide +kernel)) rfl
theorem k_959 : Cond.methodLink "PointsToRoundsLaw" 31 y_M_statement ∈ zT := z_mem (List.mem_of_getElem? (i := 959) (by decide +kernel)) rfl
theorem k_960 : Cond.instanceMethod y_M_statement ∈ zT := z_mem (List.mem_of_getElem? (i := 960) (by decide +kernel)) rfl
theorem k_961 : Cond.selects "PointsToRoundsModel" y_M_statement y_M_statement ∈ zT := z_mem (List.mem_of_getElem? (i := 961) (by decide +kernel)) rfl
theorem k_962 : Cond.code y_M_statement b_M_statement 9 (some .int) ∈ zT := z_mem (List.mem_of_getElem? (i := 962) (by decide +kernel)) rfl
theorem k_963 : Cond.methodLink "PointsToRoundsModel" 150 y_M_isMethod ∈ zT := z_mem (List.mem_of_getElem? (i := 963) (by decide +kernel)) rfl
theorem k_965 : Cond.instanceMethod y_M_isMethod ∈ zT := z_mem (List.mem_of_getElem? (i := 965) (by decide +kernel)) rfl
theorem k_966 : Cond.code y_M_isMethod b_M_isMethod 2 (some .boolean) ∈ zT := z_mem (List.mem_of_getElem? (i := 966) (by decide +kernel)) rfl
theorem k_967 : Cond.methodLink "PointsToRoundsModel" 153 y_M_isGood ∈ zT := z_mem (List.mem_of_getElem? (i := 967) (by decide +kernel)) rfl
theorem k_969 : Cond.instanceMethod y_M_isGood ∈ zT := z_mem (List.mem_of_getElem? (i := 969) (by decide +kernel)) rfl
theorem k_970 : Cond.code y_M_isGood b_M_isGood 7 (some .boolean) ∈ zT := z_mem (List.mem_of_getElem? (i := 970) (by decide +kernel)) rfl
theorem k_971 : Cond.methodLink "PointsToRoundsModel" 141 y_M_isName ∈ zT := z_mem (List.mem_of_getElem? (i := 971) (by decide +kernel)) rfl
theorem k_972 : Cond.static y_M_isName ∈ zT := z_mem (List.mem_of_getElem? (i := 972) (by decide +kernel)) rfl
theorem k_973 : Cond.code y_M_isName b_M_isName 1 (some .boolean) ∈ zT := z_mem (List.mem_of_getElem? (i := 973) (by decide +kernel)) rfl
theorem k_974 : Cond.methodLink "PointsToRoundsModel" 144 y_M_isField ∈ zT := z_mem (List.mem_of_getElem? (i := 974) (by decide +kernel)) rfl
theorem k_976 : Cond.instanceMethod y_M_isField ∈ zT := z_mem (List.mem_of_getElem? (i := 976) (by decide +kernel)) rfl
theorem k_977 : Cond.code y_M_isField b_M_isField 2 (some .boolean) ∈ zT := z_mem (List.mem_of_getElem? (i := 977) (by decide +kernel)) rfl
theorem k_978 : Cond.methodLink "PointsToRoundsModel" 147 y_M_isStatic ∈ zT := z_mem (List.mem_of_getElem? (i := 978) (by decide +kernel)) rfl
theorem k_979 : Cond.static y_M_isStatic ∈ zT := z_mem (List.mem_of_getElem? (i := 979) (by decide +kernel)) rfl
theorem k_980 : Cond.code y_M_isStatic b_M_isStatic 1 (some .boolean) ∈ zT := z_mem (List.mem_of_getElem? (i := 980) (by decide +kernel)) rfl
theorem k_981 : Cond.methodLink "PointsToRoundsLaw" 35 y_M_mode ∈ zT := z_mem (List.mem_of_getElem? (i := 981) (by decide +kernel)) rfl
theorem k_982 : Cond.instanceMethod y_M_mode ∈ zT := z_mem (List.mem_of_getElem? (i := 982) (by decide +kernel)) rfl
theorem k_983 : Cond.selects "PointsToRoundsModel" y_M_mode y_M_mode ∈ zT := z_mem (List.mem_of_getElem? (i := 983) (by decide +kernel)) rfl
theorem k_984 : Cond.code y_M_mode b_M_mode 3 (some .int) ∈ zT := z_mem (List.mem_of_getElem? (i := 984) (by decide +kernel)) rfl
theorem k_985 : Cond.methodLink "PointsToRoundsLaw" 40 y_M_clear ∈ zT := z_mem (List.mem_of_getElem? (i := 985) (by decide +kernel)) rfl
theorem k_986 : Cond.instanceMethod y_M_clear ∈ zT := z_mem (List.mem_of_getElem? (i := 986) (by decide +kernel)) rfl
theorem k_987 : Cond.selects "PointsToRoundsModel" y_M_clear y_M_clear ∈ zT := z_mem (List.mem_of_getElem? (i := 987) (by decide +kernel)) rfl
theorem k_988 : Cond.code y_M_clear b_M_clear 2 (some .int) ∈ zT := z_mem (List.mem_of_getElem? (i := 988) (by decide +kernel)) rfl
theorem k_989 : Cond.methodLink "PointsToRoundsLaw" 45 y_M_points ∈ zT := z_mem (List.mem_of_getElem? (i := 989) (by decide +kernel)) rfl
theorem k_990 : Cond.instanceMethod y_M_points ∈ zT := z_mem (List.mem_of_getElem? (i := 990) (by decide +kernel)) rfl
theorem k_991 : Cond.selects "PointsToRoundsModel" y_M_points y_M_points ∈ zT := z_mem (List.mem_of_getElem? (i := 991) (by decide +kernel)) rfl
theorem k_992 : Cond.code y_M_points b_M_points 4 (some .int) ∈ zT := z_mem (List.mem_of_getElem? (i := 992) (by decide +kernel)) rfl
theorem k_993 : Cond.methodLink "PointsToRoundsModel" 210 y_M_isContext ∈ zT := z_mem (List.mem_of_getElem? (i := 993) (by decide +kernel)) rfl
theorem k_995 : Cond.instanceMethod y_M_isContext ∈ zT := z_mem (List.mem_of_getElem? (i := 995) (by decide +kernel)) rfl
theorem k_996 : Cond.code y_M_isContext b_M_isContext 2 (some .boolean) ∈ zT := z_mem (List.mem_of_getElem? (i := 996) (by decide +kernel)) rfl
theorem k_997 : Cond.methodLink "PointsToRoundsModel" 213 y_M_know ∈ zT := z_mem (List.mem_of_getElem? (i := 997) (by decide +kernel)) rfl
theorem k_999 : Cond.instanceMethod y_M_know ∈ zT := z_mem (List.mem_of_getElem? (i := 999) (by decide +kernel)) rfl
theorem k_1000 : Cond.code y_M_know b_M_know 4 none ∈ zT := z_mem (List.mem_of_getElem? (i := 1000) (by decide +kernel)) rfl
theorem k_1001 : Cond.methodLink "PointsToRoundsModel" 186 y_M_empty ∈ zT := z_mem (List.mem_of_getElem? (i := 1001) (by decide +kernel)) rfl
theorem k_1003 : Cond.instanceMethod y_M_empty ∈ zT := z_mem (List.mem_of_getElem? (i := 1003) (by decide +kernel)) rfl
theorem k_1004 : Cond.code y_M_empty b_M_empty 2 none ∈ zT := z_mem (List.mem_of_getElem? (i := 1004) (by decide +kernel)) rfl
theorem k_1005 : Cond.methodLink "PointsToRoundsModel" 192 y_M_copy ∈ zT := z_mem (List.mem_of_getElem? (i := 1005) (by decide +kernel)) rfl
theorem k_1007 : Cond.instanceMethod y_M_copy ∈ zT := z_mem (List.mem_of_getElem? (i := 1007) (by decide +kernel)) rfl
theorem k_1008 : Cond.code y_M_copy b_M_copy 2 none ∈ zT := z_mem (List.mem_of_getElem? (i := 1008) (by decide +kernel)) rfl
theorem k_1009 : Cond.methodLink "PointsToRoundsModel" 195 y_M_bring ∈ zT := z_mem (List.mem_of_getElem? (i := 1009) (by decide +kernel)) rfl
theorem k_1011 : Cond.instanceMethod y_M_bring ∈ zT := z_mem (List.mem_of_getElem? (i := 1011) (by decide +kernel)) rfl
theorem k_1012 : Cond.code y_M_bring b_M_bring 7 none ∈ zT := z_mem (List.mem_of_getElem? (i := 1012) (by decide +kernel)) rfl
theorem k_1013 : Cond.methodLink "PointsToRoundsModel" 166 y_M_nameAt ∈ zT := z_mem (List.mem_of_getElem? (i := 1013) (by decide +kernel)) rfl
theorem k_1014 : Cond.static y_M_nameAt ∈ zT := z_mem (List.mem_of_getElem? (i := 1014) (by decide +kernel)) rfl
theorem k_1015 : Cond.code y_M_nameAt b_M_nameAt 3 (some .int) ∈ zT := z_mem (List.mem_of_getElem? (i := 1015) (by decide +kernel)) rfl
theorem k_1016 : Cond.methodLink "PointsToRoundsModel" 170 y_M_call ∈ zT := z_mem (List.mem_of_getElem? (i := 1016) (by decide +kernel)) rfl
theorem k_1018 : Cond.instanceMethod y_M_call ∈ zT := z_mem (List.mem_of_getElem? (i := 1018) (by decide +kernel)) rfl
theorem k_1019 : Cond.code y_M_call b_M_call 10 none ∈ zT := z_mem (List.mem_of_getElem? (i := 1019) (by decide +kernel)) rfl
theorem k_1020 : Cond.methodLink "PointsToRoundsModel" 180 y_M_found ∈ zT := z_mem (List.mem_of_getElem? (i := 1020) (by decide +kernel)) rfl
theorem k_1022 : Cond.instanceMethod y_M_found ∈ zT := z_mem (List.mem_of_getElem? (i := 1022) (by decide +kernel)) rfl
theorem k_1023 : Cond.code y_M_found b_M_found 5 (some .int) ∈ zT := z_mem (List.mem_of_getElem? (i := 1023) (by decide +kernel)) rfl
theorem k_1024 : Cond.methodLink "PointsToRoundsModel" 174 y_M_bringEach ∈ zT := z_mem (List.mem_of_getElem? (i := 1024) (by decide +kernel)) rfl
theorem k_1026 : Cond.instanceMethod y_M_bringEach ∈ zT := z_mem (List.mem_of_getElem? (i := 1026) (by decide +kernel)) rfl
theorem k_1027 : Cond.code y_M_bringEach b_M_bringEach 8 none ∈ zT := z_mem (List.mem_of_getElem? (i := 1027) (by decide +kernel)) rfl
theorem k_1028 : Cond.methodLink "PointsToRoundsModel" 177 y_M_hasField ∈ zT := z_mem (List.mem_of_getElem? (i := 1028) (by decide +kernel)) rfl
theorem k_1030 : Cond.instanceMethod y_M_hasField ∈ zT := z_mem (List.mem_of_getElem? (i := 1030) (by decide +kernel)) rfl
theorem k_1031 : Cond.code y_M_hasField b_M_hasField 3 (some .boolean) ∈ zT := z_mem (List.mem_of_getElem? (i := 1031) (by decide +kernel)) rfl
theorem k_1032 : Cond.methodLink "PointsToRoundsModel" 119 y_M_isUnder ∈ zT := z_mem (List.mem_of_getElem? (i := 1032) (by decide +kernel)) rfl
theorem k_1034 : Cond.instanceMethod y_M_isUnder ∈ zT := z_mem (List.mem_of_getElem? (i := 1034) (by decide +kernel)) rfl
theorem k_1035 : Cond.code y_M_isUnder b_M_isUnder 4 (some .boolean) ∈ zT := z_mem (List.mem_of_getElem? (i := 1035) (by decide +kernel)) rfl
theorem k_1036 : Cond.methodLink "PointsToRoundsModel" 199 y_M_isSame ∈ zT := z_mem (List.mem_of_getElem? (i := 1036) (by decide +kernel)) rfl
theorem k_1038 : Cond.instanceMethod y_M_isSame ∈ zT := z_mem (List.mem_of_getElem? (i := 1038) (by decide +kernel)) rfl
theorem k_1039 : Cond.code y_M_isSame b_M_isSame 3 (some .boolean) ∈ zT := z_mem (List.mem_of_getElem? (i := 1039) (by decide +kernel)) rfl
theorem k_1040 : Cond.methodLink "PointsToRoundsModel" 203 y_M_swap ∈ zT := z_mem (List.mem_of_getElem? (i := 1040) (by decide +kernel)) rfl
theorem k_1042 : Cond.instanceMethod y_M_swap ∈ zT := z_mem (List.mem_of_getElem? (i := 1042) (by decide +kernel)) rfl
theorem k_1043 : Cond.code y_M_swap b_M_swap 2 none ∈ zT := z_mem (List.mem_of_getElem? (i := 1043) (by decide +kernel)) rfl
theorem k_1044 : Cond.methodLink "PointsToRoundsModel" 206 y_M_note ∈ zT := z_mem (List.mem_of_getElem? (i := 1044) (by decide +kernel)) rfl
theorem k_1046 : Cond.instanceMethod y_M_note ∈ zT := z_mem (List.mem_of_getElem? (i := 1046) (by decide +kernel)) rfl
theorem k_1047 : Cond.code y_M_note b_M_note 7 none ∈ zT := z_mem (List.mem_of_getElem? (i := 1047) (by decide +kernel)) rfl
theorem k_1048 : Cond.methodLink "PointsToRoundsModel" 183 y_M_allOf ∈ zT := z_mem (List.mem_of_getElem? (i := 1048) (by decide +kernel)) rfl
theorem k_1050 : Cond.instanceMethod y_M_allOf ∈ zT := z_mem (List.mem_of_getElem? (i := 1050) (by decide +kernel)) rfl
theorem k_1051 : Cond.code y_M_allOf b_M_allOf 5 (some .int) ∈ zT := z_mem (List.mem_of_getElem? (i := 1051) (by decide +kernel)) rfl
theorem k_1052 : Cond.methodLink "PointsToRoundsLaw" 49 y_M_inField ∈ zT := z_mem (List.mem_of_getElem? (i := 1052) (by decide +kernel)) rfl
theorem k_1053 : Cond.instanceMethod y_M_inField ∈ zT := z_mem (List.mem_of_getElem? (i := 1053) (by decide +kernel)) rfl
theorem k_1054 : Cond.selects "PointsToRoundsModel" y_M_inField y_M_inField ∈ zT := z_mem (List.mem_of_getElem? (i := 1054) (by decide +kernel)) rfl
theorem k_1055 : Cond.code y_M_inField b_M_inField 3 (some .int) ∈ zT := z_mem (List.mem_of_getElem? (i := 1055) (by decide +kernel)) rfl
theorem k_1056 : Cond.methodLink "PointsToRoundsModel" 216 y_M_isSite ∈ zT := z_mem (List.mem_of_getElem? (i := 1056) (by decide +kernel)) rfl
theorem k_1058 : Cond.instanceMethod y_M_isSite ∈ zT := z_mem (List.mem_of_getElem? (i := 1058) (by decide +kernel)) rfl
theorem k_1059 : Cond.code y_M_isSite b_M_isSite 2 (some .boolean) ∈ zT := z_mem (List.mem_of_getElem? (i := 1059) (by decide +kernel)) rfl
theorem k_1060 : Cond.methodLink "PointsToRoundsLaw" 53 y_M_element ∈ zT := z_mem (List.mem_of_getElem? (i := 1060) (by decide +kernel)) rfl
theorem k_1061 : Cond.instanceMethod y_M_element ∈ zT := z_mem (List.mem_of_getElem? (i := 1061) (by decide +kernel)) rfl
theorem k_1062 : Cond.selects "PointsToRoundsModel" y_M_element y_M_element ∈ zT := z_mem (List.mem_of_getElem? (i := 1062) (by decide +kernel)) rfl
theorem k_1063 : Cond.code y_M_element b_M_element 2 (some .int) ∈ zT := z_mem (List.mem_of_getElem? (i := 1063) (by decide +kernel)) rfl
theorem k_1064 : Cond.methodLink "PointsToRoundsLaw" 57 y_M_inStatic ∈ zT := z_mem (List.mem_of_getElem? (i := 1064) (by decide +kernel)) rfl
theorem k_1065 : Cond.instanceMethod y_M_inStatic ∈ zT := z_mem (List.mem_of_getElem? (i := 1065) (by decide +kernel)) rfl
theorem k_1066 : Cond.selects "PointsToRoundsModel" y_M_inStatic y_M_inStatic ∈ zT := z_mem (List.mem_of_getElem? (i := 1066) (by decide +kernel)) rfl
theorem k_1067 : Cond.code y_M_inStatic b_M_inStatic 2 (some .int) ∈ zT := z_mem (List.mem_of_getElem? (i := 1067) (by decide +kernel)) rfl
theorem k_1068 : Cond.methodLink "PointsToRoundsLaw" 61 y_M_reached ∈ zT := z_mem (List.mem_of_getElem? (i := 1068) (by decide +kernel)) rfl
theorem k_1069 : Cond.instanceMethod y_M_reached ∈ zT := z_mem (List.mem_of_getElem? (i := 1069) (by decide +kernel)) rfl
theorem k_1070 : Cond.selects "PointsToRoundsModel" y_M_reached y_M_reached ∈ zT := z_mem (List.mem_of_getElem? (i := 1070) (by decide +kernel)) rfl
theorem k_1071 : Cond.code y_M_reached b_M_reached 4 (some .int) ∈ zT := z_mem (List.mem_of_getElem? (i := 1071) (by decide +kernel)) rfl
theorem k_1072 : Cond.methodLink "PointsToRoundsLaw" 65 y_M_may ∈ zT := z_mem (List.mem_of_getElem? (i := 1072) (by decide +kernel)) rfl
theorem k_1073 : Cond.instanceMethod y_M_may ∈ zT := z_mem (List.mem_of_getElem? (i := 1073) (by decide +kernel)) rfl
theorem k_1074 : Cond.selects "PointsToRoundsModel" y_M_may y_M_may ∈ zT := z_mem (List.mem_of_getElem? (i := 1074) (by decide +kernel)) rfl
theorem k_1075 : Cond.code y_M_may b_M_may 6 (some .int) ∈ zT := z_mem (List.mem_of_getElem? (i := 1075) (by decide +kernel)) rfl
theorem k_1076 : Cond.methodLink "PointsToRoundsLaw" 70 y_M_alias ∈ zT := z_mem (List.mem_of_getElem? (i := 1076) (by decide +kernel)) rfl
theorem k_1077 : Cond.instanceMethod y_M_alias ∈ zT := z_mem (List.mem_of_getElem? (i := 1077) (by decide +kernel)) rfl
theorem k_1078 : Cond.selects "PointsToRoundsModel" y_M_alias y_M_alias ∈ zT := z_mem (List.mem_of_getElem? (i := 1078) (by decide +kernel)) rfl
theorem k_1079 : Cond.code y_M_alias b_M_alias 5 (some .int) ∈ zT := z_mem (List.mem_of_getElem? (i := 1079) (by decide +kernel)) rfl
theorem k_1080 : Cond.methodLink "PointsToRoundsLaw" 74 y_M_rounds ∈ zT := z_mem (List.mem_of_getElem? (i := 1080) (by decide +kernel)) rfl
theorem k_1081 : Cond.instanceMethod y_M_rounds ∈ zT := z_mem (List.mem_of_getElem? (i := 1081) (by decide +kernel)) rfl
theorem k_1082 : Cond.selects "PointsToRoundsModel" y_M_rounds y_M_rounds ∈ zT := z_mem (List.mem_of_getElem? (i := 1082) (by decide +kernel)) rfl
theorem k_1083 : Cond.code y_M_rounds b_M_rounds 1 (some .int) ∈ zT := z_mem (List.mem_of_getElem? (i := 1083) (by decide +kernel)) rfl
theorem k_1084 : Cond.methodLink "PointsToRoundsLaw" 78 y_M_when ∈ zT := z_mem (List.mem_of_getElem? (i := 1084) (by decide +kernel)) rfl
theorem k_1085 : Cond.instanceMethod y_M_when ∈ zT := z_mem (List.mem_of_getElem? (i := 1085) (by decide +kernel)) rfl
theorem k_1086 : Cond.selects "PointsToRoundsModel" y_M_when y_M_when ∈ zT := z_mem (List.mem_of_getElem? (i := 1086) (by decide +kernel)) rfl
theorem k_1087 : Cond.code y_M_when b_M_when 5 (some .int) ∈ zT := z_mem (List.mem_of_getElem? (i := 1087) (by decide +kernel)) rfl
theorem k_1088 : Cond.methodLink "PointsToRoundsLaw" 82 y_M_run ∈ zT := z_mem (List.mem_of_getElem? (i := 1088) (by decide +kernel)) rfl
theorem k_1089 : Cond.instanceMethod y_M_run ∈ zT := z_mem (List.mem_of_getElem? (i := 1089) (by decide +kernel)) rfl
theorem k_1090 : Cond.selects "PointsToRoundsModel" y_M_run y_M_run ∈ zT := z_mem (List.mem_of_getElem? (i := 1090) (by decide +kernel)) rfl
theorem k_1091 : Cond.code y_M_run b_M_run 10 (some .int) ∈ zT := z_mem (List.mem_of_getElem? (i := 1091) (by decide +kernel)) rfl
theorem k_1092 : Cond.methodLink "PointsToRoundsModel" 228 y_M_open ∈ zT := z_mem (List.mem_of_getElem? (i := 1092) (by decide +kernel)) rfl
theorem k_1094 : Cond.instanceMethod y_M_open ∈ zT := z_mem (List.mem_of_getElem? (i := 1094) (by decide +kernel)) rfl
theorem k_1095 : Cond.code y_M_open b_M_open 5 none ∈ zT := z_mem (List.mem_of_getElem? (i := 1095) (by decide +kernel)) rfl
theorem k_1096 : Cond.constant "PointsToRoundsModel" 244 1664525 ∈ zT := z_mem (List.mem_of_getElem? (i := 1096) (by decide +kernel)) rfl
theorem k_1097 : Cond.constant "PointsToRoundsModel" 245 1013904223 ∈ zT := z_mem (List.mem_of_getElem? (i := 1097) (by decide +kernel)) rfl
theorem k_1098 : Cond.methodLink "PointsToRoundsModel" 246 y_M_many ∈ zT := z_mem (List.mem_of_getElem? (i := 1098) (by decide +kernel)) rfl
theorem k_1100 : Cond.instanceMethod y_M_many ∈ zT := z_mem (List.mem_of_getElem? (i := 1100) (by decide +kernel)) rfl
theorem k_1101 : Cond.code y_M_many b_M_many 4 (some .int) ∈ zT := z_mem (List.mem_of_getElem? (i := 1101) (by decide +kernel)) rfl
theorem k_1102 : Cond.methodLink "PointsToRoundsModel" 250 y_M_statementOf ∈ zT := z_mem (List.mem_of_getElem? (i := 1102) (by decide +kernel)) rfl
theorem k_1104 : Cond.instanceMethod y_M_statementOf ∈ zT := z_mem (List.mem_of_getElem? (i := 1104) (by decide +kernel)) rfl
theorem k_1105 : Cond.code y_M_statementOf b_M_statementOf 5 (some .int) ∈ zT := z_mem (List.mem_of_getElem? (i := 1105) (by decide +kernel)) rfl
theorem k_1106 : Cond.methodLink "PointsToRoundsModel" 253 y_M_act ∈ zT := z_mem (List.mem_of_getElem? (i := 1106) (by decide +kernel)) rfl
theorem k_1108 : Cond.instanceMethod y_M_act ∈ zT := z_mem (List.mem_of_getElem? (i := 1108) (by decide +kernel)) rfl
theorem k_1109 : Cond.code y_M_act b_M_act 6 none ∈ zT := z_mem (List.mem_of_getElem? (i := 1109) (by decide +kernel)) rfl
theorem k_1110 : Cond.methodLink "PointsToRoundsModel" 232 y_M_make ∈ zT := z_mem (List.mem_of_getElem? (i := 1110) (by decide +kernel)) rfl
theorem k_1112 : Cond.instanceMethod y_M_make ∈ zT := z_mem (List.mem_of_getElem? (i := 1112) (by decide +kernel)) rfl
theorem k_1113 : Cond.code y_M_make b_M_make 4 none ∈ zT := z_mem (List.mem_of_getElem? (i := 1113) (by decide +kernel)) rfl
theorem k_1114 : Cond.methodLink "PointsToRoundsModel" 235 y_M_canHave ∈ zT := z_mem (List.mem_of_getElem? (i := 1114) (by decide +kernel)) rfl
theorem k_1116 : Cond.instanceMethod y_M_canHave ∈ zT := z_mem (List.mem_of_getElem? (i := 1116) (by decide +kernel)) rfl
theorem k_1117 : Cond.code y_M_canHave b_M_canHave 3 (some .boolean) ∈ zT := z_mem (List.mem_of_getElem? (i := 1117) (by decide +kernel)) rfl
theorem k_1118 : Cond.methodLink "PointsToRoundsModel" 238 y_M_enter ∈ zT := z_mem (List.mem_of_getElem? (i := 1118) (by decide +kernel)) rfl
theorem k_1120 : Cond.instanceMethod y_M_enter ∈ zT := z_mem (List.mem_of_getElem? (i := 1120) (by decide +kernel)) rfl
theorem k_1121 : Cond.code y_M_enter b_M_enter 7 none ∈ zT := z_mem (List.mem_of_getElem? (i := 1121) (by decide +kernel)) rfl
theorem k_1122 : Cond.methodLink "PointsToRoundsModel" 256 y_M_leave ∈ zT := z_mem (List.mem_of_getElem? (i := 1122) (by decide +kernel)) rfl
theorem k_1124 : Cond.instanceMethod y_M_leave ∈ zT := z_mem (List.mem_of_getElem? (i := 1124) (by decide +kernel)) rfl
theorem k_1125 : Cond.code y_M_leave b_M_leave 1 none ∈ zT := z_mem (List.mem_of_getElem? (i := 1125) (by decide +kernel)) rfl
theorem k_1126 : Cond.methodLink "PointsToRoundsModel" 259 y_M_holds ∈ zT := z_mem (List.mem_of_getElem? (i := 1126) (by decide +kernel)) rfl
theorem k_1128 : Cond.instanceMethod y_M_holds ∈ zT := z_mem (List.mem_of_getElem? (i := 1128) (by decide +kernel)) rfl
theorem k_1129 : Cond.code y_M_holds b_M_holds 5 (some .boolean) ∈ zT := z_mem (List.mem_of_getElem? (i := 1129) (by decide +kernel)) rfl
theorem k_1130 : Cond.methodLink "PointsToRoundsModel" 241 y_M_isIn ∈ zT := z_mem (List.mem_of_getElem? (i := 1130) (by decide +kernel)) rfl
theorem k_1132 : Cond.instanceMethod y_M_isIn ∈ zT := z_mem (List.mem_of_getElem? (i := 1132) (by decide +kernel)) rfl
theorem k_1133 : Cond.code y_M_isIn b_M_isIn 3 (some .boolean) ∈ zT := z_mem (List.mem_of_getElem? (i := 1133) (by decide +kernel)) rfl
theorem k_1134 : Cond.methodLink "PointsToRoundsLaw" 86 y_M_met ∈ zT := z_mem (List.mem_of_getElem? (i := 1134) (by decide +kernel)) rfl
theorem k_1135 : Cond.instanceMethod y_M_met ∈ zT := z_mem (List.mem_of_getElem? (i := 1135) (by decide +kernel)) rfl
theorem k_1136 : Cond.selects "PointsToRoundsModel" y_M_met y_M_met ∈ zT := z_mem (List.mem_of_getElem? (i := 1136) (by decide +kernel)) rfl
theorem k_1137 : Cond.code y_M_met b_M_met 3 (some .int) ∈ zT := z_mem (List.mem_of_getElem? (i := 1137) (by decide +kernel)) rfl
theorem k_1138 : Cond.methodLink "PointsToRoundsLaw" 90 y_M_ran ∈ zT := z_mem (List.mem_of_getElem? (i := 1138) (by decide +kernel)) rfl
theorem k_1139 : Cond.instanceMethod y_M_ran ∈ zT := z_mem (List.mem_of_getElem? (i := 1139) (by decide +kernel)) rfl
theorem k_1140 : Cond.selects "PointsToRoundsModel" y_M_ran y_M_ran ∈ zT := z_mem (List.mem_of_getElem? (i := 1140) (by decide +kernel)) rfl
theorem k_1141 : Cond.code y_M_ran b_M_ran 2 (some .int) ∈ zT := z_mem (List.mem_of_getElem? (i := 1141) (by decide +kernel)) rfl
theorem k_1142 : Cond.castable "PointsToRounds$Body" "PointsToRounds$Body" ∈ zT := z_mem (List.mem_of_getElem? (i := 1142) (by decide +kernel)) rfl
theorem k_1143 : Cond.castable "PointsToRounds$Cell" "PointsToRounds$Cell" ∈ zT := z_mem (List.mem_of_getElem? (i := 1143) (by decide +kernel)) rfl
theorem k_1144 : Cond.castable "PointsToRounds$Statement" "PointsToRounds$Statement" ∈ zT := z_mem (List.mem_of_getElem? (i := 1144) (by decide +kernel)) rfl
theorem k_1145 : Cond.castable "PointsToRounds$Frame" "PointsToRounds$Frame" ∈ zT := z_mem (List.mem_of_getElem? (i := 1145) (by decide +kernel)) rfl
theorem k_1146 : Cond.castable "PointsToRounds$Thing" "PointsToRounds$Thing" ∈ zT := z_mem (List.mem_of_getElem? (i := 1146) (by decide +kernel)) rfl
theorem k_1148 : Cond.selects "[Ljava/lang/Object;" ⟨"java/lang/Object", "getClass", "()Ljava/lang/Class;"⟩ ⟨"java/lang/Object", "getClass", "()Ljava/lang/Class;"⟩ ∈ zT := z_mem (List.mem_of_getElem? (i := 1148) (by decide +kernel)) rfl
theorem k_1149 : Cond.declares ⟨"java/lang/Object", "getClass", "()Ljava/lang/Class;"⟩ ∈ zT := z_mem (List.mem_of_getElem? (i := 1149) (by decide +kernel)) rfl
theorem k_1150 : Cond.castable "PointsToRounds" "java/lang/Object" ∈ zT := z_mem (List.mem_of_getElem? (i := 1150) (by decide +kernel)) rfl
theorem k_1151 : Cond.castable "PointsToRounds$Sets" "java/lang/Object" ∈ zT := z_mem (List.mem_of_getElem? (i := 1151) (by decide +kernel)) rfl
theorem k_1152 : Cond.castable "PointsToRounds$Body" "java/lang/Object" ∈ zT := z_mem (List.mem_of_getElem? (i := 1152) (by decide +kernel)) rfl
theorem k_1153 : Cond.castable "PointsToRounds$Cell" "java/lang/Object" ∈ zT := z_mem (List.mem_of_getElem? (i := 1153) (by decide +kernel)) rfl
theorem k_1154 : Cond.castable "PointsToRoundsModel" "java/lang/Object" ∈ zT := z_mem (List.mem_of_getElem? (i := 1154) (by decide +kernel)) rfl
theorem k_1155 : Cond.castable "PointsToRounds$Statement" "java/lang/Object" ∈ zT := z_mem (List.mem_of_getElem? (i := 1155) (by decide +kernel)) rfl
theorem k_1156 : Cond.castable "PointsToRounds$Run" "java/lang/Object" ∈ zT := z_mem (List.mem_of_getElem? (i := 1156) (by decide +kernel)) rfl
theorem k_1157 : Cond.castable "PointsToRounds$Frame" "java/lang/Object" ∈ zT := z_mem (List.mem_of_getElem? (i := 1157) (by decide +kernel)) rfl
theorem k_1158 : Cond.castable "PointsToRounds$Thing" "java/lang/Object" ∈ zT := z_mem (List.mem_of_getElem? (i := 1158) (by decide +kernel)) rfl
theorem k_1159 : Cond.castable "java/util/ArrayList" "java/lang/Object" ∈ zT := z_mem (List.mem_of_getElem? (i := 1159) (by decide +kernel)) rfl
