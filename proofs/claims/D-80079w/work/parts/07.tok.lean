/-! tokens: fields, calls, new objects, by class and pool entry -/
theorem fa_AL_9 : zFA "java/util/ArrayList" 9 9 1 := ⟨R_AL, F_AL, 3, rfl, by decide, u_AL, Or.inl ⟨_, k_101, Or.inl rfl⟩⟩
theorem fp_AL_9 : zFP "java/util/ArrayList" 9 9 1 (.array (.object "java/lang/Object")) false := ⟨R_AL, F_AL, 3, t_AL, rfl, by decide, u_AL, Or.inl ⟨_, k_101, Or.inl rfl⟩, t_AL_ok, n_AL, rfl, rfl, fun h => absurd h (by decide)⟩
theorem fa_AL_48 : zFA "java/util/ArrayList" 48 9 2 := ⟨R_AL, F_AL, 3, rfl, by decide, u_AL, Or.inl ⟨_, k_102, Or.inl rfl⟩⟩
theorem fp_AL_48 : zFP "java/util/ArrayList" 48 9 2 (.int) false := ⟨R_AL, F_AL, 3, t_AL, rfl, by decide, u_AL, Or.inl ⟨_, k_102, Or.inl rfl⟩, t_AL_ok, n_AL, rfl, rfl, fun h => absurd h (by decide)⟩
theorem fa_AbL_7 : zFA "java/util/AbstractList" 7 9 0 := ⟨R_AL, F_AL, 3, rfl, by decide, u_AL, Or.inl ⟨_, k_103, Or.inl rfl⟩⟩
theorem fp_AbL_7 : zFP "java/util/AbstractList" 7 9 0 (.int) false := ⟨R_AL, F_AL, 3, t_AL, rfl, by decide, u_AL, Or.inl ⟨_, k_103, Or.inl rfl⟩, t_AL_ok, n_AL, rfl, rfl, fun h => absurd h (by decide)⟩
theorem fa_AL_63 : zFA "java/util/ArrayList" 63 9 0 := ⟨R_AL, F_AL, 3, rfl, by decide, u_AL, Or.inl ⟨_, k_104, Or.inr k_105⟩⟩
theorem fp_AL_63 : zFP "java/util/ArrayList" 63 9 0 (.int) false := ⟨R_AL, F_AL, 3, t_AL, rfl, by decide, u_AL, Or.inl ⟨_, k_104, Or.inr k_105⟩, t_AL_ok, n_AL, rfl, rfl, fun h => absurd h (by decide)⟩
theorem fa_Ce_13 : zFA "PointsToRounds$Cell" 13 3 0 := ⟨R_Ce, F_Ce, 3, rfl, by decide, u_Ce, Or.inl ⟨_, k_136, Or.inl rfl⟩⟩
theorem fp_Ce_13 : zFP "PointsToRounds$Cell" 13 3 0 (.int) false := ⟨R_Ce, F_Ce, 3, t_Ce, rfl, by decide, u_Ce, Or.inl ⟨_, k_136, Or.inl rfl⟩, t_Ce_ok, n_Ce, rfl, rfl, fun h => absurd h (by decide)⟩
theorem fa_Ru_158 : zFA "PointsToRounds$Run" 158 3 0 := ⟨R_Ce, F_Ce, 3, rfl, by decide, u_Ce, Or.inr ⟨_, k_137⟩⟩
theorem fp_Ru_158 : zFP "PointsToRounds$Run" 158 3 0 (.int) false := ⟨R_Ce, F_Ce, 3, t_Ce, rfl, by decide, u_Ce, Or.inr ⟨_, k_137⟩, t_Ce_ok, n_Ce, rfl, rfl, fun h => absurd h (by decide)⟩
theorem fa_Se_123 : zFA "PointsToRounds$Sets" 123 3 0 := ⟨R_Ce, F_Ce, 3, rfl, by decide, u_Ce, Or.inr ⟨_, k_138⟩⟩
theorem fp_Se_123 : zFP "PointsToRounds$Sets" 123 3 0 (.int) false := ⟨R_Ce, F_Ce, 3, t_Ce, rfl, by decide, u_Ce, Or.inr ⟨_, k_138⟩, t_Ce_ok, n_Ce, rfl, rfl, fun h => absurd h (by decide)⟩
theorem fa_P_138 : zFA "PointsToRounds" 138 3 0 := ⟨R_Ce, F_Ce, 3, rfl, by decide, u_Ce, Or.inr ⟨_, k_139⟩⟩
theorem fp_P_138 : zFP "PointsToRounds" 138 3 0 (.int) false := ⟨R_Ce, F_Ce, 3, t_Ce, rfl, by decide, u_Ce, Or.inr ⟨_, k_139⟩, t_Ce_ok, n_Ce, rfl, rfl, fun h => absurd h (by decide)⟩
theorem fa_Ce_16 : zFA "PointsToRounds$Cell" 16 3 1 := ⟨R_Ce, F_Ce, 3, rfl, by decide, u_Ce, Or.inl ⟨_, k_140, Or.inl rfl⟩⟩
theorem fp_Ce_16 : zFP "PointsToRounds$Cell" 16 3 1 (.int) false := ⟨R_Ce, F_Ce, 3, t_Ce, rfl, by decide, u_Ce, Or.inl ⟨_, k_140, Or.inl rfl⟩, t_Ce_ok, n_Ce, rfl, rfl, fun h => absurd h (by decide)⟩
theorem fa_Se_84 : zFA "PointsToRounds$Sets" 84 3 1 := ⟨R_Ce, F_Ce, 3, rfl, by decide, u_Ce, Or.inr ⟨_, k_141⟩⟩
theorem fp_Se_84 : zFP "PointsToRounds$Sets" 84 3 1 (.int) false := ⟨R_Ce, F_Ce, 3, t_Ce, rfl, by decide, u_Ce, Or.inr ⟨_, k_141⟩, t_Ce_ok, n_Ce, rfl, rfl, fun h => absurd h (by decide)⟩
theorem fa_Ce_7 : zFA "PointsToRounds$Cell" 7 3 2 := ⟨R_Ce, F_Ce, 3, rfl, by decide, u_Ce, Or.inl ⟨_, k_142, Or.inl rfl⟩⟩
theorem fp_Ce_7 : zFP "PointsToRounds$Cell" 7 3 2 (.int) false := ⟨R_Ce, F_Ce, 3, t_Ce, rfl, by decide, u_Ce, Or.inl ⟨_, k_142, Or.inl rfl⟩, t_Ce_ok, n_Ce, rfl, rfl, fun h => absurd h (by decide)⟩
theorem fa_Se_55 : zFA "PointsToRounds$Sets" 55 2 0 := ⟨R_Bo, F_Bo, 4, rfl, by decide, u_Bo, Or.inr ⟨_, k_214⟩⟩
theorem fp_Se_55 : zFP "PointsToRounds$Sets" 55 2 0 (.boolean) false := ⟨R_Bo, F_Bo, 4, t_Bo, rfl, by decide, u_Bo, Or.inr ⟨_, k_214⟩, t_Bo_ok, n_Bo, rfl, rfl, fun h => absurd h (by decide)⟩
theorem fa_P_156 : zFA "PointsToRounds" 156 2 0 := ⟨R_Bo, F_Bo, 4, rfl, by decide, u_Bo, Or.inr ⟨_, k_215⟩⟩
theorem fp_P_156 : zFP "PointsToRounds" 156 2 0 (.boolean) false := ⟨R_Bo, F_Bo, 4, t_Bo, rfl, by decide, u_Bo, Or.inr ⟨_, k_215⟩, t_Bo_ok, n_Bo, rfl, rfl, fun h => absurd h (by decide)⟩
theorem fa_Se_59 : zFA "PointsToRounds$Sets" 59 2 1 := ⟨R_Bo, F_Bo, 4, rfl, by decide, u_Bo, Or.inr ⟨_, k_216⟩⟩
theorem fp_Se_59 : zFP "PointsToRounds$Sets" 59 2 1 (.boolean) false := ⟨R_Bo, F_Bo, 4, t_Bo, rfl, by decide, u_Bo, Or.inr ⟨_, k_216⟩, t_Bo_ok, n_Bo, rfl, rfl, fun h => absurd h (by decide)⟩
theorem fa_Se_62 : zFA "PointsToRounds$Sets" 62 2 2 := ⟨R_Bo, F_Bo, 4, rfl, by decide, u_Bo, Or.inr ⟨_, k_217⟩⟩
theorem fp_Se_62 : zFP "PointsToRounds$Sets" 62 2 2 (.boolean) false := ⟨R_Bo, F_Bo, 4, t_Bo, rfl, by decide, u_Bo, Or.inr ⟨_, k_217⟩, t_Bo_ok, n_Bo, rfl, rfl, fun h => absurd h (by decide)⟩
theorem fa_Bo_12 : zFA "PointsToRounds$Body" 12 2 3 := ⟨R_Bo, F_Bo, 4, rfl, by decide, u_Bo, Or.inl ⟨_, k_218, Or.inl rfl⟩⟩
theorem fp_Bo_12 : zFP "PointsToRounds$Body" 12 2 3 (.object "java/util/List") true := ⟨R_Bo, F_Bo, 4, t_Bo, rfl, by decide, u_Bo, Or.inl ⟨_, k_218, Or.inl rfl⟩, t_Bo_ok, n_Bo, rfl, rfl, fun _ => ⟨rfl, k_218⟩⟩
theorem fa_Se_18 : zFA "PointsToRounds$Sets" 18 1 0 := ⟨R_Se, F_Se, 7, rfl, by decide, u_Se, Or.inl ⟨_, k_232, Or.inl rfl⟩⟩
theorem fp_Se_18 : zFP "PointsToRounds$Sets" 18 1 0 (.object "java/util/List") true := ⟨R_Se, F_Se, 7, t_Se, rfl, by decide, u_Se, Or.inl ⟨_, k_232, Or.inl rfl⟩, t_Se_ok, n_Se, rfl, rfl, fun _ => ⟨rfl, k_232⟩⟩
theorem fa_Se_22 : zFA "PointsToRounds$Sets" 22 1 1 := ⟨R_Se, F_Se, 7, rfl, by decide, u_Se, Or.inl ⟨_, k_233, Or.inl rfl⟩⟩
theorem fp_Se_22 : zFP "PointsToRounds$Sets" 22 1 1 (.object "java/util/List") true := ⟨R_Se, F_Se, 7, t_Se, rfl, by decide, u_Se, Or.inl ⟨_, k_233, Or.inl rfl⟩, t_Se_ok, n_Se, rfl, rfl, fun _ => ⟨rfl, k_233⟩⟩
theorem fa_Se_25 : zFA "PointsToRounds$Sets" 25 1 2 := ⟨R_Se, F_Se, 7, rfl, by decide, u_Se, Or.inl ⟨_, k_234, Or.inl rfl⟩⟩
theorem fp_Se_25 : zFP "PointsToRounds$Sets" 25 1 2 (.object "java/util/List") true := ⟨R_Se, F_Se, 7, t_Se, rfl, by decide, u_Se, Or.inl ⟨_, k_234, Or.inl rfl⟩, t_Se_ok, n_Se, rfl, rfl, fun _ => ⟨rfl, k_234⟩⟩
theorem fa_Ru_188 : zFA "PointsToRounds$Run" 188 1 2 := ⟨R_Se, F_Se, 7, rfl, by decide, u_Se, Or.inr ⟨_, k_235⟩⟩
theorem fa_P_150 : zFA "PointsToRounds" 150 1 2 := ⟨R_Se, F_Se, 7, rfl, by decide, u_Se, Or.inr ⟨_, k_236⟩⟩
theorem fa_Se_28 : zFA "PointsToRounds$Sets" 28 1 3 := ⟨R_Se, F_Se, 7, rfl, by decide, u_Se, Or.inl ⟨_, k_237, Or.inl rfl⟩⟩
theorem fp_Se_28 : zFP "PointsToRounds$Sets" 28 1 3 (.object "java/util/List") true := ⟨R_Se, F_Se, 7, t_Se, rfl, by decide, u_Se, Or.inl ⟨_, k_237, Or.inl rfl⟩, t_Se_ok, n_Se, rfl, rfl, fun _ => ⟨rfl, k_237⟩⟩
theorem fa_Ru_186 : zFA "PointsToRounds$Run" 186 1 3 := ⟨R_Se, F_Se, 7, rfl, by decide, u_Se, Or.inr ⟨_, k_238⟩⟩
theorem fa_P_153 : zFA "PointsToRounds" 153 1 3 := ⟨R_Se, F_Se, 7, rfl, by decide, u_Se, Or.inr ⟨_, k_239⟩⟩
theorem fa_Se_31 : zFA "PointsToRounds$Sets" 31 1 4 := ⟨R_Se, F_Se, 7, rfl, by decide, u_Se, Or.inl ⟨_, k_240, Or.inl rfl⟩⟩
theorem fp_Se_31 : zFP "PointsToRounds$Sets" 31 1 4 (.array (.int)) true := ⟨R_Se, F_Se, 7, t_Se, rfl, by decide, u_Se, Or.inl ⟨_, k_240, Or.inl rfl⟩, t_Se_ok, n_Se, rfl, rfl, fun _ => ⟨rfl, k_240⟩⟩
theorem fa_P_180 : zFA "PointsToRounds" 180 1 4 := ⟨R_Se, F_Se, 7, rfl, by decide, u_Se, Or.inr ⟨_, k_241⟩⟩
theorem fa_Se_94 : zFA "PointsToRounds$Sets" 94 1 5 := ⟨R_Se, F_Se, 7, rfl, by decide, u_Se, Or.inl ⟨_, k_242, Or.inl rfl⟩⟩
theorem fp_Se_94 : zFP "PointsToRounds$Sets" 94 1 5 (.int) false := ⟨R_Se, F_Se, 7, t_Se, rfl, by decide, u_Se, Or.inl ⟨_, k_242, Or.inl rfl⟩, t_Se_ok, n_Se, rfl, rfl, fun h => absurd h (by decide)⟩
theorem fa_P_177 : zFA "PointsToRounds" 177 1 5 := ⟨R_Se, F_Se, 7, rfl, by decide, u_Se, Or.inr ⟨_, k_243⟩⟩
theorem fp_P_177 : zFP "PointsToRounds" 177 1 5 (.int) false := ⟨R_Se, F_Se, 7, t_Se, rfl, by decide, u_Se, Or.inr ⟨_, k_243⟩, t_Se_ok, n_Se, rfl, rfl, fun h => absurd h (by decide)⟩
theorem fa_Se_3 : zFA "PointsToRounds$Sets" 3 1 6 := ⟨R_Se, F_Se, 7, rfl, by decide, u_Se, Or.inl ⟨_, k_244, Or.inl rfl⟩⟩
theorem fp_Se_3 : zFP "PointsToRounds$Sets" 3 1 6 (.object "PointsToRounds") true := ⟨R_Se, F_Se, 7, t_Se, rfl, by decide, u_Se, Or.inl ⟨_, k_244, Or.inl rfl⟩, t_Se_ok, n_Se, rfl, rfl, fun _ => ⟨rfl, k_244⟩⟩
theorem fa_P_7 : zFA "PointsToRounds" 7 0 0 := ⟨R_P, F_P, 15, rfl, by decide, u_P, Or.inl ⟨_, k_260, Or.inl rfl⟩⟩
theorem fp_P_7 : zFP "PointsToRounds" 7 0 0 (.array (.int)) true := ⟨R_P, F_P, 15, t_P, rfl, by decide, u_P, Or.inl ⟨_, k_260, Or.inl rfl⟩, t_P_ok, n_P, rfl, rfl, fun _ => ⟨rfl, k_260⟩⟩
theorem fa_P_66 : zFA "PointsToRounds" 66 0 1 := ⟨R_P, F_P, 15, rfl, by decide, u_P, Or.inl ⟨_, k_261, Or.inl rfl⟩⟩
theorem fp_P_66 : zFP "PointsToRounds" 66 0 1 (.int) false := ⟨R_P, F_P, 15, t_P, rfl, by decide, u_P, Or.inl ⟨_, k_261, Or.inl rfl⟩, t_P_ok, n_P, rfl, rfl, fun h => absurd h (by decide)⟩
theorem fa_P_13 : zFA "PointsToRounds" 13 0 2 := ⟨R_P, F_P, 15, rfl, by decide, u_P, Or.inl ⟨_, k_262, Or.inl rfl⟩⟩
theorem fp_P_13 : zFP "PointsToRounds" 13 0 2 (.array (.int)) true := ⟨R_P, F_P, 15, t_P, rfl, by decide, u_P, Or.inl ⟨_, k_262, Or.inl rfl⟩, t_P_ok, n_P, rfl, rfl, fun _ => ⟨rfl, k_262⟩⟩
theorem fa_Ru_191 : zFA "PointsToRounds$Run" 191 0 3 := ⟨R_P, F_P, 15, rfl, by decide, u_P, Or.inr ⟨_, k_263⟩⟩
theorem fp_Ru_191 : zFP "PointsToRounds$Run" 191 0 3 (.int) false := ⟨R_P, F_P, 15, t_P, rfl, by decide, u_P, Or.inr ⟨_, k_263⟩, t_P_ok, n_P, rfl, rfl, fun h => absurd h (by decide)⟩
theorem fa_P_69 : zFA "PointsToRounds" 69 0 3 := ⟨R_P, F_P, 15, rfl, by decide, u_P, Or.inl ⟨_, k_264, Or.inl rfl⟩⟩
theorem fp_P_69 : zFP "PointsToRounds" 69 0 3 (.int) false := ⟨R_P, F_P, 15, t_P, rfl, by decide, u_P, Or.inl ⟨_, k_264, Or.inl rfl⟩, t_P_ok, n_P, rfl, rfl, fun h => absurd h (by decide)⟩
theorem fa_P_16 : zFA "PointsToRounds" 16 0 4 := ⟨R_P, F_P, 15, rfl, by decide, u_P, Or.inl ⟨_, k_265, Or.inl rfl⟩⟩
theorem fp_P_16 : zFP "PointsToRounds" 16 0 4 (.array (.int)) true := ⟨R_P, F_P, 15, t_P, rfl, by decide, u_P, Or.inl ⟨_, k_265, Or.inl rfl⟩, t_P_ok, n_P, rfl, rfl, fun _ => ⟨rfl, k_265⟩⟩
theorem fa_P_19 : zFA "PointsToRounds" 19 0 5 := ⟨R_P, F_P, 15, rfl, by decide, u_P, Or.inl ⟨_, k_266, Or.inl rfl⟩⟩
theorem fp_P_19 : zFP "PointsToRounds" 19 0 5 (.array (.int)) true := ⟨R_P, F_P, 15, t_P, rfl, by decide, u_P, Or.inl ⟨_, k_266, Or.inl rfl⟩, t_P_ok, n_P, rfl, rfl, fun _ => ⟨rfl, k_266⟩⟩
theorem fa_P_44 : zFA "PointsToRounds" 44 0 6 := ⟨R_P, F_P, 15, rfl, by decide, u_P, Or.inl ⟨_, k_267, Or.inl rfl⟩⟩
theorem fp_P_44 : zFP "PointsToRounds" 44 0 6 (.int) false := ⟨R_P, F_P, 15, t_P, rfl, by decide, u_P, Or.inl ⟨_, k_267, Or.inl rfl⟩, t_P_ok, n_P, rfl, rfl, fun h => absurd h (by decide)⟩
theorem fa_Se_72 : zFA "PointsToRounds$Sets" 72 0 6 := ⟨R_P, F_P, 15, rfl, by decide, u_P, Or.inr ⟨_, k_268⟩⟩
theorem fp_Se_72 : zFP "PointsToRounds$Sets" 72 0 6 (.int) false := ⟨R_P, F_P, 15, t_P, rfl, by decide, u_P, Or.inr ⟨_, k_268⟩, t_P_ok, n_P, rfl, rfl, fun h => absurd h (by decide)⟩
theorem fa_P_25 : zFA "PointsToRounds" 25 0 7 := ⟨R_P, F_P, 15, rfl, by decide, u_P, Or.inl ⟨_, k_269, Or.inl rfl⟩⟩
theorem fp_P_25 : zFP "PointsToRounds" 25 0 7 (.object "java/util/List") true := ⟨R_P, F_P, 15, t_P, rfl, by decide, u_P, Or.inl ⟨_, k_269, Or.inl rfl⟩, t_P_ok, n_P, rfl, rfl, fun _ => ⟨rfl, k_269⟩⟩
theorem fa_P_29 : zFA "PointsToRounds" 29 0 8 := ⟨R_P, F_P, 15, rfl, by decide, u_P, Or.inl ⟨_, k_270, Or.inl rfl⟩⟩
theorem fp_P_29 : zFP "PointsToRounds" 29 0 8 (.object "java/util/List") true := ⟨R_P, F_P, 15, t_P, rfl, by decide, u_P, Or.inl ⟨_, k_270, Or.inl rfl⟩, t_P_ok, n_P, rfl, rfl, fun _ => ⟨rfl, k_270⟩⟩
theorem fa_Ru_54 : zFA "PointsToRounds$Run" 54 0 8 := ⟨R_P, F_P, 15, rfl, by decide, u_P, Or.inr ⟨_, k_271⟩⟩
theorem fa_Se_98 : zFA "PointsToRounds$Sets" 98 0 8 := ⟨R_P, F_P, 15, rfl, by decide, u_P, Or.inr ⟨_, k_272⟩⟩
theorem fa_P_32 : zFA "PointsToRounds" 32 0 9 := ⟨R_P, F_P, 15, rfl, by decide, u_P, Or.inl ⟨_, k_273, Or.inl rfl⟩⟩
theorem fp_P_32 : zFP "PointsToRounds" 32 0 9 (.array (.int)) true := ⟨R_P, F_P, 15, t_P, rfl, by decide, u_P, Or.inl ⟨_, k_273, Or.inl rfl⟩, t_P_ok, n_P, rfl, rfl, fun _ => ⟨rfl, k_273⟩⟩
theorem fa_Ru_128 : zFA "PointsToRounds$Run" 128 0 9 := ⟨R_P, F_P, 15, rfl, by decide, u_P, Or.inr ⟨_, k_274⟩⟩
theorem fa_Se_149 : zFA "PointsToRounds$Sets" 149 0 9 := ⟨R_P, F_P, 15, rfl, by decide, u_P, Or.inr ⟨_, k_275⟩⟩
theorem fa_P_52 : zFA "PointsToRounds" 52 0 10 := ⟨R_P, F_P, 15, rfl, by decide, u_P, Or.inl ⟨_, k_276, Or.inl rfl⟩⟩
theorem fp_P_52 : zFP "PointsToRounds" 52 0 10 (.int) false := ⟨R_P, F_P, 15, t_P, rfl, by decide, u_P, Or.inl ⟨_, k_276, Or.inl rfl⟩, t_P_ok, n_P, rfl, rfl, fun h => absurd h (by decide)⟩
theorem fa_Se_91 : zFA "PointsToRounds$Sets" 91 0 10 := ⟨R_P, F_P, 15, rfl, by decide, u_P, Or.inr ⟨_, k_277⟩⟩
theorem fp_Se_91 : zFP "PointsToRounds$Sets" 91 0 10 (.int) false := ⟨R_P, F_P, 15, t_P, rfl, by decide, u_P, Or.inr ⟨_, k_277⟩, t_P_ok, n_P, rfl, rfl, fun h => absurd h (by decide)⟩
theorem fa_Ru_149 : zFA "PointsToRounds$Run" 149 0 11 := ⟨R_P, F_P, 15, rfl, by decide, u_P, Or.inr ⟨_, k_278⟩⟩
theorem fp_Ru_149 : zFP "PointsToRounds$Run" 149 0 11 (.int) false := ⟨R_P, F_P, 15, t_P, rfl, by decide, u_P, Or.inr ⟨_, k_278⟩, t_P_ok, n_P, rfl, rfl, fun h => absurd h (by decide)⟩
theorem fa_Se_155 : zFA "PointsToRounds$Sets" 155 0 11 := ⟨R_P, F_P, 15, rfl, by decide, u_P, Or.inr ⟨_, k_279⟩⟩
theorem fp_Se_155 : zFP "PointsToRounds$Sets" 155 0 11 (.int) false := ⟨R_P, F_P, 15, t_P, rfl, by decide, u_P, Or.inr ⟨_, k_279⟩, t_P_ok, n_P, rfl, rfl, fun h => absurd h (by decide)⟩
theorem fa_P_117 : zFA "PointsToRounds" 117 0 11 := ⟨R_P, F_P, 15, rfl, by decide, u_P, Or.inl ⟨_, k_280, Or.inl rfl⟩⟩
theorem fp_P_117 : zFP "PointsToRounds" 117 0 11 (.int) false := ⟨R_P, F_P, 15, t_P, rfl, by decide, u_P, Or.inl ⟨_, k_280, Or.inl rfl⟩, t_P_ok, n_P, rfl, rfl, fun h => absurd h (by decide)⟩
theorem fa_P_40 : zFA "PointsToRounds" 40 0 12 := ⟨R_P, F_P, 15, rfl, by decide, u_P, Or.inl ⟨_, k_281, Or.inl rfl⟩⟩
theorem fp_P_40 : zFP "PointsToRounds" 40 0 12 (.object "PointsToRounds$Sets") true := ⟨R_P, F_P, 15, t_P, rfl, by decide, u_P, Or.inl ⟨_, k_281, Or.inl rfl⟩, t_P_ok, n_P, rfl, rfl, fun _ => ⟨rfl, k_281⟩⟩
theorem fa_Ru_163 : zFA "PointsToRounds$Run" 163 0 12 := ⟨R_P, F_P, 15, rfl, by decide, u_P, Or.inr ⟨_, k_282⟩⟩
theorem fa_P_55 : zFA "PointsToRounds" 55 0 13 := ⟨R_P, F_P, 15, rfl, by decide, u_P, Or.inl ⟨_, k_283, Or.inl rfl⟩⟩
theorem fp_P_55 : zFP "PointsToRounds" 55 0 13 (.boolean) false := ⟨R_P, F_P, 15, t_P, rfl, by decide, u_P, Or.inl ⟨_, k_283, Or.inl rfl⟩, t_P_ok, n_P, rfl, rfl, fun h => absurd h (by decide)⟩
theorem fa_P_59 : zFA "PointsToRounds" 59 0 14 := ⟨R_P, F_P, 15, rfl, by decide, u_P, Or.inl ⟨_, k_284, Or.inl rfl⟩⟩
theorem fp_P_59 : zFP "PointsToRounds" 59 0 14 (.object "PointsToRounds$Run") false := ⟨R_P, F_P, 15, t_P, rfl, by decide, u_P, Or.inl ⟨_, k_284, Or.inl rfl⟩, t_P_ok, n_P, rfl, rfl, fun h => absurd h (by decide)⟩
theorem fa_St_13 : zFA "PointsToRounds$Statement" 13 4 0 := ⟨R_St, F_St, 8, rfl, by decide, u_St, Or.inl ⟨_, k_375, Or.inl rfl⟩⟩
theorem fp_St_13 : zFP "PointsToRounds$Statement" 13 4 0 (.int) true := ⟨R_St, F_St, 8, t_St, rfl, by decide, u_St, Or.inl ⟨_, k_375, Or.inl rfl⟩, t_St_ok, n_St, rfl, rfl, fun _ => ⟨rfl, k_375⟩⟩
theorem fa_P_162 : zFA "PointsToRounds" 162 4 0 := ⟨R_St, F_St, 8, rfl, by decide, u_St, Or.inr ⟨_, k_376⟩⟩
theorem fa_St_16 : zFA "PointsToRounds$Statement" 16 4 1 := ⟨R_St, F_St, 8, rfl, by decide, u_St, Or.inl ⟨_, k_377, Or.inl rfl⟩⟩
theorem fp_St_16 : zFP "PointsToRounds$Statement" 16 4 1 (.int) true := ⟨R_St, F_St, 8, t_St, rfl, by decide, u_St, Or.inl ⟨_, k_377, Or.inl rfl⟩, t_St_ok, n_St, rfl, rfl, fun _ => ⟨rfl, k_377⟩⟩
theorem fa_Ru_101 : zFA "PointsToRounds$Run" 101 4 1 := ⟨R_St, F_St, 8, rfl, by decide, u_St, Or.inr ⟨_, k_378⟩⟩
theorem fa_Se_108 : zFA "PointsToRounds$Sets" 108 4 1 := ⟨R_St, F_St, 8, rfl, by decide, u_St, Or.inr ⟨_, k_379⟩⟩
theorem fa_P_159 : zFA "PointsToRounds" 159 4 1 := ⟨R_St, F_St, 8, rfl, by decide, u_St, Or.inr ⟨_, k_380⟩⟩
theorem fa_St_19 : zFA "PointsToRounds$Statement" 19 4 2 := ⟨R_St, F_St, 8, rfl, by decide, u_St, Or.inl ⟨_, k_381, Or.inl rfl⟩⟩
theorem fp_St_19 : zFP "PointsToRounds$Statement" 19 4 2 (.int) true := ⟨R_St, F_St, 8, t_St, rfl, by decide, u_St, Or.inl ⟨_, k_381, Or.inl rfl⟩, t_St_ok, n_St, rfl, rfl, fun _ => ⟨rfl, k_381⟩⟩
theorem fa_Ru_98 : zFA "PointsToRounds$Run" 98 4 2 := ⟨R_St, F_St, 8, rfl, by decide, u_St, Or.inr ⟨_, k_382⟩⟩
theorem fa_Se_111 : zFA "PointsToRounds$Sets" 111 4 2 := ⟨R_St, F_St, 8, rfl, by decide, u_St, Or.inr ⟨_, k_383⟩⟩
theorem fa_St_22 : zFA "PointsToRounds$Statement" 22 4 3 := ⟨R_St, F_St, 8, rfl, by decide, u_St, Or.inl ⟨_, k_384, Or.inl rfl⟩⟩
theorem fp_St_22 : zFP "PointsToRounds$Statement" 22 4 3 (.int) true := ⟨R_St, F_St, 8, t_St, rfl, by decide, u_St, Or.inl ⟨_, k_384, Or.inl rfl⟩, t_St_ok, n_St, rfl, rfl, fun _ => ⟨rfl, k_384⟩⟩
theorem fa_Ru_104 : zFA "PointsToRounds$Run" 104 4 3 := ⟨R_St, F_St, 8, rfl, by decide, u_St, Or.inr ⟨_, k_385⟩⟩
theorem fa_Se_120 : zFA "PointsToRounds$Sets" 120 4 3 := ⟨R_St, F_St, 8, rfl, by decide, u_St, Or.inr ⟨_, k_386⟩⟩
theorem fa_P_165 : zFA "PointsToRounds" 165 4 3 := ⟨R_St, F_St, 8, rfl, by decide, u_St, Or.inr ⟨_, k_387⟩⟩
theorem fa_St_25 : zFA "PointsToRounds$Statement" 25 4 4 := ⟨R_St, F_St, 8, rfl, by decide, u_St, Or.inl ⟨_, k_388, Or.inl rfl⟩⟩
theorem fp_St_25 : zFP "PointsToRounds$Statement" 25 4 4 (.int) true := ⟨R_St, F_St, 8, t_St, rfl, by decide, u_St, Or.inl ⟨_, k_388, Or.inl rfl⟩, t_St_ok, n_St, rfl, rfl, fun _ => ⟨rfl, k_388⟩⟩
theorem fa_Ru_118 : zFA "PointsToRounds$Run" 118 4 4 := ⟨R_St, F_St, 8, rfl, by decide, u_St, Or.inr ⟨_, k_389⟩⟩
theorem fa_Se_130 : zFA "PointsToRounds$Sets" 130 4 4 := ⟨R_St, F_St, 8, rfl, by decide, u_St, Or.inr ⟨_, k_390⟩⟩
theorem fa_P_168 : zFA "PointsToRounds" 168 4 4 := ⟨R_St, F_St, 8, rfl, by decide, u_St, Or.inr ⟨_, k_391⟩⟩
theorem fa_St_28 : zFA "PointsToRounds$Statement" 28 4 5 := ⟨R_St, F_St, 8, rfl, by decide, u_St, Or.inl ⟨_, k_392, Or.inl rfl⟩⟩
theorem fp_St_28 : zFP "PointsToRounds$Statement" 28 4 5 (.int) true := ⟨R_St, F_St, 8, t_St, rfl, by decide, u_St, Or.inl ⟨_, k_392, Or.inl rfl⟩, t_St_ok, n_St, rfl, rfl, fun _ => ⟨rfl, k_392⟩⟩
theorem fa_Ru_152 : zFA "PointsToRounds$Run" 152 4 5 := ⟨R_St, F_St, 8, rfl, by decide, u_St, Or.inr ⟨_, k_393⟩⟩
theorem fa_Se_158 : zFA "PointsToRounds$Sets" 158 4 5 := ⟨R_St, F_St, 8, rfl, by decide, u_St, Or.inr ⟨_, k_394⟩⟩
theorem fa_St_31 : zFA "PointsToRounds$Statement" 31 4 6 := ⟨R_St, F_St, 8, rfl, by decide, u_St, Or.inl ⟨_, k_395, Or.inl rfl⟩⟩
theorem fp_St_31 : zFP "PointsToRounds$Statement" 31 4 6 (.int) true := ⟨R_St, F_St, 8, t_St, rfl, by decide, u_St, Or.inl ⟨_, k_395, Or.inl rfl⟩, t_St_ok, n_St, rfl, rfl, fun _ => ⟨rfl, k_395⟩⟩
theorem fa_Ru_155 : zFA "PointsToRounds$Run" 155 4 6 := ⟨R_St, F_St, 8, rfl, by decide, u_St, Or.inr ⟨_, k_396⟩⟩
theorem fa_Se_161 : zFA "PointsToRounds$Sets" 161 4 6 := ⟨R_St, F_St, 8, rfl, by decide, u_St, Or.inr ⟨_, k_397⟩⟩
theorem fa_St_7 : zFA "PointsToRounds$Statement" 7 4 7 := ⟨R_St, F_St, 8, rfl, by decide, u_St, Or.inl ⟨_, k_398, Or.inl rfl⟩⟩
theorem fp_St_7 : zFP "PointsToRounds$Statement" 7 4 7 (.int) false := ⟨R_St, F_St, 8, t_St, rfl, by decide, u_St, Or.inl ⟨_, k_398, Or.inl rfl⟩, t_St_ok, n_St, rfl, rfl, fun h => absurd h (by decide)⟩
theorem fa_Ru_107 : zFA "PointsToRounds$Run" 107 4 7 := ⟨R_St, F_St, 8, rfl, by decide, u_St, Or.inr ⟨_, k_399⟩⟩
theorem fp_Ru_107 : zFP "PointsToRounds$Run" 107 4 7 (.int) false := ⟨R_St, F_St, 8, t_St, rfl, by decide, u_St, Or.inr ⟨_, k_399⟩, t_St_ok, n_St, rfl, rfl, fun h => absurd h (by decide)⟩
theorem fa_Se_114 : zFA "PointsToRounds$Sets" 114 4 7 := ⟨R_St, F_St, 8, rfl, by decide, u_St, Or.inr ⟨_, k_400⟩⟩
theorem fp_Se_114 : zFP "PointsToRounds$Sets" 114 4 7 (.int) false := ⟨R_St, F_St, 8, t_St, rfl, by decide, u_St, Or.inr ⟨_, k_400⟩, t_St_ok, n_St, rfl, rfl, fun h => absurd h (by decide)⟩
theorem fa_P_110 : zFA "PointsToRounds" 110 4 7 := ⟨R_St, F_St, 8, rfl, by decide, u_St, Or.inr ⟨_, k_401⟩⟩
theorem fp_P_110 : zFP "PointsToRounds" 110 4 7 (.int) false := ⟨R_St, F_St, 8, t_St, rfl, by decide, u_St, Or.inr ⟨_, k_401⟩, t_St_ok, n_St, rfl, rfl, fun h => absurd h (by decide)⟩
theorem fa_AD_3 : zFA "java/util/ArrayDeque" 3 10 0 := ⟨R_AD, F_AD, 3, rfl, by decide, u_AD, Or.inl ⟨_, k_605, Or.inl rfl⟩⟩
theorem fp_AD_3 : zFP "java/util/ArrayDeque" 3 10 0 (.array (.object "java/lang/Object")) false := ⟨R_AD, F_AD, 3, t_AD, rfl, by decide, u_AD, Or.inl ⟨_, k_605, Or.inl rfl⟩, t_AD_ok, n_AD, rfl, rfl, fun h => absurd h (by decide)⟩
theorem fa_AD_24 : zFA "java/util/ArrayDeque" 24 10 1 := ⟨R_AD, F_AD, 3, rfl, by decide, u_AD, Or.inl ⟨_, k_606, Or.inl rfl⟩⟩
theorem fp_AD_24 : zFP "java/util/ArrayDeque" 24 10 1 (.int) false := ⟨R_AD, F_AD, 3, t_AD, rfl, by decide, u_AD, Or.inl ⟨_, k_606, Or.inl rfl⟩, t_AD_ok, n_AD, rfl, rfl, fun h => absurd h (by decide)⟩
theorem fa_AD_20 : zFA "java/util/ArrayDeque" 20 10 2 := ⟨R_AD, F_AD, 3, rfl, by decide, u_AD, Or.inl ⟨_, k_607, Or.inl rfl⟩⟩
theorem fp_AD_20 : zFP "java/util/ArrayDeque" 20 10 2 (.int) false := ⟨R_AD, F_AD, 3, t_AD, rfl, by decide, u_AD, Or.inl ⟨_, k_607, Or.inl rfl⟩, t_AD_ok, n_AD, rfl, rfl, fun h => absurd h (by decide)⟩
theorem fa_Ru_18 : zFA "PointsToRounds$Run" 18 7 0 := ⟨R_Ru, F_Ru, 7, rfl, by decide, u_Ru, Or.inl ⟨_, k_617, Or.inl rfl⟩⟩
theorem fp_Ru_18 : zFP "PointsToRounds$Run" 18 7 0 (.object "java/util/List") true := ⟨R_Ru, F_Ru, 7, t_Ru, rfl, by decide, u_Ru, Or.inl ⟨_, k_617, Or.inl rfl⟩, t_Ru_ok, n_Ru, rfl, rfl, fun _ => ⟨rfl, k_617⟩⟩
theorem fa_P_196 : zFA "PointsToRounds" 196 7 0 := ⟨R_Ru, F_Ru, 7, rfl, by decide, u_Ru, Or.inr ⟨_, k_618⟩⟩
theorem fa_Ru_25 : zFA "PointsToRounds$Run" 25 7 1 := ⟨R_Ru, F_Ru, 7, rfl, by decide, u_Ru, Or.inl ⟨_, k_619, Or.inl rfl⟩⟩
theorem fp_Ru_25 : zFP "PointsToRounds$Run" 25 7 1 (.object "java/util/ArrayDeque") true := ⟨R_Ru, F_Ru, 7, t_Ru, rfl, by decide, u_Ru, Or.inl ⟨_, k_619, Or.inl rfl⟩, t_Ru_ok, n_Ru, rfl, rfl, fun _ => ⟨rfl, k_619⟩⟩
theorem fa_P_199 : zFA "PointsToRounds" 199 7 1 := ⟨R_Ru, F_Ru, 7, rfl, by decide, u_Ru, Or.inr ⟨_, k_620⟩⟩
theorem fa_Ru_31 : zFA "PointsToRounds$Run" 31 7 2 := ⟨R_Ru, F_Ru, 7, rfl, by decide, u_Ru, Or.inl ⟨_, k_621, Or.inl rfl⟩⟩
theorem fp_Ru_31 : zFP "PointsToRounds$Run" 31 7 2 (.array (.object "PointsToRounds$Thing")) true := ⟨R_Ru, F_Ru, 7, t_Ru, rfl, by decide, u_Ru, Or.inl ⟨_, k_621, Or.inl rfl⟩, t_Ru_ok, n_Ru, rfl, rfl, fun _ => ⟨rfl, k_621⟩⟩
theorem fa_Ru_35 : zFA "PointsToRounds$Run" 35 7 3 := ⟨R_Ru, F_Ru, 7, rfl, by decide, u_Ru, Or.inl ⟨_, k_622, Or.inl rfl⟩⟩
theorem fp_Ru_35 : zFP "PointsToRounds$Run" 35 7 3 (.array (.int)) true := ⟨R_Ru, F_Ru, 7, t_Ru, rfl, by decide, u_Ru, Or.inl ⟨_, k_622, Or.inl rfl⟩, t_Ru_ok, n_Ru, rfl, rfl, fun _ => ⟨rfl, k_622⟩⟩
theorem fa_P_193 : zFA "PointsToRounds" 193 7 3 := ⟨R_Ru, F_Ru, 7, rfl, by decide, u_Ru, Or.inr ⟨_, k_623⟩⟩
theorem fa_Ru_146 : zFA "PointsToRounds$Run" 146 7 4 := ⟨R_Ru, F_Ru, 7, rfl, by decide, u_Ru, Or.inl ⟨_, k_624, Or.inl rfl⟩⟩
theorem fp_Ru_146 : zFP "PointsToRounds$Run" 146 7 4 (.int) false := ⟨R_Ru, F_Ru, 7, t_Ru, rfl, by decide, u_Ru, Or.inl ⟨_, k_624, Or.inl rfl⟩, t_Ru_ok, n_Ru, rfl, rfl, fun h => absurd h (by decide)⟩
theorem fa_P_206 : zFA "PointsToRounds" 206 7 4 := ⟨R_Ru, F_Ru, 7, rfl, by decide, u_Ru, Or.inr ⟨_, k_625⟩⟩
theorem fp_P_206 : zFP "PointsToRounds" 206 7 4 (.int) false := ⟨R_Ru, F_Ru, 7, t_Ru, rfl, by decide, u_Ru, Or.inr ⟨_, k_625⟩, t_Ru_ok, n_Ru, rfl, rfl, fun h => absurd h (by decide)⟩
theorem fa_Ru_39 : zFA "PointsToRounds$Run" 39 7 5 := ⟨R_Ru, F_Ru, 7, rfl, by decide, u_Ru, Or.inl ⟨_, k_626, Or.inl rfl⟩⟩
theorem fp_Ru_39 : zFP "PointsToRounds$Run" 39 7 5 (.boolean) false := ⟨R_Ru, F_Ru, 7, t_Ru, rfl, by decide, u_Ru, Or.inl ⟨_, k_626, Or.inl rfl⟩, t_Ru_ok, n_Ru, rfl, rfl, fun h => absurd h (by decide)⟩
theorem fa_P_190 : zFA "PointsToRounds" 190 7 5 := ⟨R_Ru, F_Ru, 7, rfl, by decide, u_Ru, Or.inr ⟨_, k_627⟩⟩
theorem fp_P_190 : zFP "PointsToRounds" 190 7 5 (.boolean) false := ⟨R_Ru, F_Ru, 7, t_Ru, rfl, by decide, u_Ru, Or.inr ⟨_, k_627⟩, t_Ru_ok, n_Ru, rfl, rfl, fun h => absurd h (by decide)⟩
theorem fa_Ru_3 : zFA "PointsToRounds$Run" 3 7 6 := ⟨R_Ru, F_Ru, 7, rfl, by decide, u_Ru, Or.inl ⟨_, k_628, Or.inl rfl⟩⟩
theorem fp_Ru_3 : zFP "PointsToRounds$Run" 3 7 6 (.object "PointsToRounds") true := ⟨R_Ru, F_Ru, 7, t_Ru, rfl, by decide, u_Ru, Or.inl ⟨_, k_628, Or.inl rfl⟩, t_Ru_ok, n_Ru, rfl, rfl, fun _ => ⟨rfl, k_628⟩⟩
theorem fa_Fr_15 : zFA "PointsToRounds$Frame" 15 6 0 := ⟨R_Fr, F_Fr, 4, rfl, by decide, u_Fr, Or.inl ⟨_, k_655, Or.inl rfl⟩⟩
theorem fp_Fr_15 : zFP "PointsToRounds$Frame" 15 6 0 (.int) true := ⟨R_Fr, F_Fr, 4, t_Fr, rfl, by decide, u_Fr, Or.inl ⟨_, k_655, Or.inl rfl⟩, t_Fr_ok, n_Fr, rfl, rfl, fun _ => ⟨rfl, k_655⟩⟩
theorem fa_Ru_61 : zFA "PointsToRounds$Run" 61 6 0 := ⟨R_Fr, F_Fr, 4, rfl, by decide, u_Fr, Or.inr ⟨_, k_656⟩⟩
theorem fa_Fr_19 : zFA "PointsToRounds$Frame" 19 6 1 := ⟨R_Fr, F_Fr, 4, rfl, by decide, u_Fr, Or.inl ⟨_, k_657, Or.inl rfl⟩⟩
theorem fp_Fr_19 : zFP "PointsToRounds$Frame" 19 6 1 (.int) true := ⟨R_Fr, F_Fr, 4, t_Fr, rfl, by decide, u_Fr, Or.inl ⟨_, k_657, Or.inl rfl⟩, t_Fr_ok, n_Fr, rfl, rfl, fun _ => ⟨rfl, k_657⟩⟩
theorem fa_Ru_167 : zFA "PointsToRounds$Run" 167 6 1 := ⟨R_Fr, F_Fr, 4, rfl, by decide, u_Fr, Or.inr ⟨_, k_658⟩⟩
theorem fa_Fr_22 : zFA "PointsToRounds$Frame" 22 6 2 := ⟨R_Fr, F_Fr, 4, rfl, by decide, u_Fr, Or.inl ⟨_, k_659, Or.inl rfl⟩⟩
theorem fp_Fr_22 : zFP "PointsToRounds$Frame" 22 6 2 (.object "PointsToRounds$Statement") true := ⟨R_Fr, F_Fr, 4, t_Fr, rfl, by decide, u_Fr, Or.inl ⟨_, k_659, Or.inl rfl⟩, t_Fr_ok, n_Fr, rfl, rfl, fun _ => ⟨rfl, k_659⟩⟩
theorem fa_Ru_94 : zFA "PointsToRounds$Run" 94 6 2 := ⟨R_Fr, F_Fr, 4, rfl, by decide, u_Fr, Or.inr ⟨_, k_660⟩⟩
theorem fa_Fr_9 : zFA "PointsToRounds$Frame" 9 6 3 := ⟨R_Fr, F_Fr, 4, rfl, by decide, u_Fr, Or.inl ⟨_, k_661, Or.inl rfl⟩⟩
theorem fp_Fr_9 : zFP "PointsToRounds$Frame" 9 6 3 (.array (.object "PointsToRounds$Thing")) true := ⟨R_Fr, F_Fr, 4, t_Fr, rfl, by decide, u_Fr, Or.inl ⟨_, k_661, Or.inl rfl⟩, t_Fr_ok, n_Fr, rfl, rfl, fun _ => ⟨rfl, k_661⟩⟩
theorem fa_Ru_91 : zFA "PointsToRounds$Run" 91 6 3 := ⟨R_Fr, F_Fr, 4, rfl, by decide, u_Fr, Or.inr ⟨_, k_662⟩⟩
theorem fa_Th_13 : zFA "PointsToRounds$Thing" 13 5 0 := ⟨R_Th, F_Th, 3, rfl, by decide, u_Th, Or.inl ⟨_, k_724, Or.inl rfl⟩⟩
theorem fp_Th_13 : zFP "PointsToRounds$Thing" 13 5 0 (.int) true := ⟨R_Th, F_Th, 3, t_Th, rfl, by decide, u_Th, Or.inl ⟨_, k_724, Or.inl rfl⟩, t_Th_ok, n_Th, rfl, rfl, fun _ => ⟨rfl, k_724⟩⟩
theorem fa_Ru_117 : zFA "PointsToRounds$Run" 117 5 0 := ⟨R_Th, F_Th, 3, rfl, by decide, u_Th, Or.inr ⟨_, k_725⟩⟩
theorem fa_Th_9 : zFA "PointsToRounds$Thing" 9 5 1 := ⟨R_Th, F_Th, 3, rfl, by decide, u_Th, Or.inl ⟨_, k_726, Or.inl rfl⟩⟩
theorem fp_Th_9 : zFP "PointsToRounds$Thing" 9 5 1 (.array (.object "PointsToRounds$Thing")) true := ⟨R_Th, F_Th, 3, t_Th, rfl, by decide, u_Th, Or.inl ⟨_, k_726, Or.inl rfl⟩, t_Th_ok, n_Th, rfl, rfl, fun _ => ⟨rfl, k_726⟩⟩
theorem fa_Ru_125 : zFA "PointsToRounds$Run" 125 5 1 := ⟨R_Th, F_Th, 3, rfl, by decide, u_Th, Or.inr ⟨_, k_727⟩⟩
theorem fa_Ru_138 : zFA "PointsToRounds$Run" 138 5 2 := ⟨R_Th, F_Th, 3, rfl, by decide, u_Th, Or.inr ⟨_, k_728⟩⟩
theorem fp_Ru_138 : zFP "PointsToRounds$Run" 138 5 2 (.object "PointsToRounds$Thing") false := ⟨R_Th, F_Th, 3, t_Th, rfl, by decide, u_Th, Or.inr ⟨_, k_728⟩, t_Th_ok, n_Th, rfl, rfl, fun h => absurd h (by decide)⟩
theorem fa_M_109 : zFA "PointsToRoundsModel" 109 8 0 := ⟨R_M, F_M, 44, rfl, by decide, u_M, Or.inl ⟨_, k_798, Or.inl rfl⟩⟩
theorem fp_M_109 : zFP "PointsToRoundsModel" 109 8 0 (.int) false := ⟨R_M, F_M, 44, t_M, rfl, by decide, u_M, Or.inl ⟨_, k_798, Or.inl rfl⟩, t_M_ok, n_M, rfl, rfl, fun h => absurd h (by decide)⟩
theorem fa_M_7 : zFA "PointsToRoundsModel" 7 8 1 := ⟨R_M, F_M, 44, rfl, by decide, u_M, Or.inl ⟨_, k_799, Or.inl rfl⟩⟩
theorem fp_M_7 : zFP "PointsToRoundsModel" 7 8 1 (.array (.int)) true := ⟨R_M, F_M, 44, t_M, rfl, by decide, u_M, Or.inl ⟨_, k_799, Or.inl rfl⟩, t_M_ok, n_M, rfl, rfl, fun _ => ⟨rfl, k_799⟩⟩
theorem fa_M_113 : zFA "PointsToRoundsModel" 113 8 2 := ⟨R_M, F_M, 44, rfl, by decide, u_M, Or.inl ⟨_, k_800, Or.inl rfl⟩⟩
theorem fp_M_113 : zFP "PointsToRoundsModel" 113 8 2 (.int) false := ⟨R_M, F_M, 44, t_M, rfl, by decide, u_M, Or.inl ⟨_, k_800, Or.inl rfl⟩, t_M_ok, n_M, rfl, rfl, fun h => absurd h (by decide)⟩
theorem fa_M_13 : zFA "PointsToRoundsModel" 13 8 3 := ⟨R_M, F_M, 44, rfl, by decide, u_M, Or.inl ⟨_, k_801, Or.inl rfl⟩⟩
theorem fp_M_13 : zFP "PointsToRoundsModel" 13 8 3 (.array (.int)) true := ⟨R_M, F_M, 44, t_M, rfl, by decide, u_M, Or.inl ⟨_, k_801, Or.inl rfl⟩, t_M_ok, n_M, rfl, rfl, fun _ => ⟨rfl, k_801⟩⟩
theorem fa_M_116 : zFA "PointsToRoundsModel" 116 8 4 := ⟨R_M, F_M, 44, rfl, by decide, u_M, Or.inl ⟨_, k_802, Or.inl rfl⟩⟩
theorem fp_M_116 : zFP "PointsToRoundsModel" 116 8 4 (.int) false := ⟨R_M, F_M, 44, t_M, rfl, by decide, u_M, Or.inl ⟨_, k_802, Or.inl rfl⟩, t_M_ok, n_M, rfl, rfl, fun h => absurd h (by decide)⟩
theorem fa_M_16 : zFA "PointsToRoundsModel" 16 8 5 := ⟨R_M, F_M, 44, rfl, by decide, u_M, Or.inl ⟨_, k_803, Or.inl rfl⟩⟩
theorem fp_M_16 : zFP "PointsToRoundsModel" 16 8 5 (.array (.int)) true := ⟨R_M, F_M, 44, t_M, rfl, by decide, u_M, Or.inl ⟨_, k_803, Or.inl rfl⟩, t_M_ok, n_M, rfl, rfl, fun _ => ⟨rfl, k_803⟩⟩
theorem fa_M_19 : zFA "PointsToRoundsModel" 19 8 6 := ⟨R_M, F_M, 44, rfl, by decide, u_M, Or.inl ⟨_, k_804, Or.inl rfl⟩⟩
theorem fp_M_19 : zFP "PointsToRoundsModel" 19 8 6 (.array (.int)) true := ⟨R_M, F_M, 44, t_M, rfl, by decide, u_M, Or.inl ⟨_, k_804, Or.inl rfl⟩, t_M_ok, n_M, rfl, rfl, fun _ => ⟨rfl, k_804⟩⟩
theorem fa_M_157 : zFA "PointsToRoundsModel" 157 8 7 := ⟨R_M, F_M, 44, rfl, by decide, u_M, Or.inl ⟨_, k_805, Or.inl rfl⟩⟩
theorem fp_M_157 : zFP "PointsToRoundsModel" 157 8 7 (.int) false := ⟨R_M, F_M, 44, t_M, rfl, by decide, u_M, Or.inl ⟨_, k_805, Or.inl rfl⟩, t_M_ok, n_M, rfl, rfl, fun h => absurd h (by decide)⟩
theorem fa_M_22 : zFA "PointsToRoundsModel" 22 8 8 := ⟨R_M, F_M, 44, rfl, by decide, u_M, Or.inl ⟨_, k_806, Or.inl rfl⟩⟩
theorem fp_M_22 : zFP "PointsToRoundsModel" 22 8 8 (.array (.int)) true := ⟨R_M, F_M, 44, t_M, rfl, by decide, u_M, Or.inl ⟨_, k_806, Or.inl rfl⟩, t_M_ok, n_M, rfl, rfl, fun _ => ⟨rfl, k_806⟩⟩
theorem fa_M_25 : zFA "PointsToRoundsModel" 25 8 9 := ⟨R_M, F_M, 44, rfl, by decide, u_M, Or.inl ⟨_, k_807, Or.inl rfl⟩⟩
theorem fp_M_25 : zFP "PointsToRoundsModel" 25 8 9 (.array (.int)) true := ⟨R_M, F_M, 44, t_M, rfl, by decide, u_M, Or.inl ⟨_, k_807, Or.inl rfl⟩, t_M_ok, n_M, rfl, rfl, fun _ => ⟨rfl, k_807⟩⟩
theorem fa_M_28 : zFA "PointsToRoundsModel" 28 8 10 := ⟨R_M, F_M, 44, rfl, by decide, u_M, Or.inl ⟨_, k_808, Or.inl rfl⟩⟩
theorem fp_M_28 : zFP "PointsToRoundsModel" 28 8 10 (.array (.int)) true := ⟨R_M, F_M, 44, t_M, rfl, by decide, u_M, Or.inl ⟨_, k_808, Or.inl rfl⟩, t_M_ok, n_M, rfl, rfl, fun _ => ⟨rfl, k_808⟩⟩
theorem fa_M_31 : zFA "PointsToRoundsModel" 31 8 11 := ⟨R_M, F_M, 44, rfl, by decide, u_M, Or.inl ⟨_, k_809, Or.inl rfl⟩⟩
theorem fp_M_31 : zFP "PointsToRoundsModel" 31 8 11 (.array (.int)) true := ⟨R_M, F_M, 44, t_M, rfl, by decide, u_M, Or.inl ⟨_, k_809, Or.inl rfl⟩, t_M_ok, n_M, rfl, rfl, fun _ => ⟨rfl, k_809⟩⟩
theorem fa_M_34 : zFA "PointsToRoundsModel" 34 8 12 := ⟨R_M, F_M, 44, rfl, by decide, u_M, Or.inl ⟨_, k_810, Or.inl rfl⟩⟩
theorem fp_M_34 : zFP "PointsToRoundsModel" 34 8 12 (.array (.int)) true := ⟨R_M, F_M, 44, t_M, rfl, by decide, u_M, Or.inl ⟨_, k_810, Or.inl rfl⟩, t_M_ok, n_M, rfl, rfl, fun _ => ⟨rfl, k_810⟩⟩
theorem fa_M_37 : zFA "PointsToRoundsModel" 37 8 13 := ⟨R_M, F_M, 44, rfl, by decide, u_M, Or.inl ⟨_, k_811, Or.inl rfl⟩⟩
theorem fp_M_37 : zFP "PointsToRoundsModel" 37 8 13 (.array (.int)) true := ⟨R_M, F_M, 44, t_M, rfl, by decide, u_M, Or.inl ⟨_, k_811, Or.inl rfl⟩, t_M_ok, n_M, rfl, rfl, fun _ => ⟨rfl, k_811⟩⟩
theorem fa_M_40 : zFA "PointsToRoundsModel" 40 8 14 := ⟨R_M, F_M, 44, rfl, by decide, u_M, Or.inl ⟨_, k_812, Or.inl rfl⟩⟩
theorem fp_M_40 : zFP "PointsToRoundsModel" 40 8 14 (.array (.int)) true := ⟨R_M, F_M, 44, t_M, rfl, by decide, u_M, Or.inl ⟨_, k_812, Or.inl rfl⟩, t_M_ok, n_M, rfl, rfl, fun _ => ⟨rfl, k_812⟩⟩
theorem fa_M_43 : zFA "PointsToRoundsModel" 43 8 15 := ⟨R_M, F_M, 44, rfl, by decide, u_M, Or.inl ⟨_, k_813, Or.inl rfl⟩⟩
theorem fp_M_43 : zFP "PointsToRoundsModel" 43 8 15 (.array (.int)) true := ⟨R_M, F_M, 44, t_M, rfl, by decide, u_M, Or.inl ⟨_, k_813, Or.inl rfl⟩, t_M_ok, n_M, rfl, rfl, fun _ => ⟨rfl, k_813⟩⟩
theorem fa_M_160 : zFA "PointsToRoundsModel" 160 8 16 := ⟨R_M, F_M, 44, rfl, by decide, u_M, Or.inl ⟨_, k_814, Or.inl rfl⟩⟩
theorem fp_M_160 : zFP "PointsToRoundsModel" 160 8 16 (.int) false := ⟨R_M, F_M, 44, t_M, rfl, by decide, u_M, Or.inl ⟨_, k_814, Or.inl rfl⟩, t_M_ok, n_M, rfl, rfl, fun h => absurd h (by decide)⟩
theorem fa_M_46 : zFA "PointsToRoundsModel" 46 8 17 := ⟨R_M, F_M, 44, rfl, by decide, u_M, Or.inl ⟨_, k_815, Or.inl rfl⟩⟩
theorem fp_M_46 : zFP "PointsToRoundsModel" 46 8 17 (.array (.int)) true := ⟨R_M, F_M, 44, t_M, rfl, by decide, u_M, Or.inl ⟨_, k_815, Or.inl rfl⟩, t_M_ok, n_M, rfl, rfl, fun _ => ⟨rfl, k_815⟩⟩
theorem fa_M_163 : zFA "PointsToRoundsModel" 163 8 18 := ⟨R_M, F_M, 44, rfl, by decide, u_M, Or.inl ⟨_, k_816, Or.inl rfl⟩⟩
theorem fp_M_163 : zFP "PointsToRoundsModel" 163 8 18 (.int) false := ⟨R_M, F_M, 44, t_M, rfl, by decide, u_M, Or.inl ⟨_, k_816, Or.inl rfl⟩, t_M_ok, n_M, rfl, rfl, fun h => absurd h (by decide)⟩
theorem fa_M_127 : zFA "PointsToRoundsModel" 127 8 19 := ⟨R_M, F_M, 44, rfl, by decide, u_M, Or.inl ⟨_, k_817, Or.inl rfl⟩⟩
theorem fp_M_127 : zFP "PointsToRoundsModel" 127 8 19 (.boolean) false := ⟨R_M, F_M, 44, t_M, rfl, by decide, u_M, Or.inl ⟨_, k_817, Or.inl rfl⟩, t_M_ok, n_M, rfl, rfl, fun h => absurd h (by decide)⟩
theorem fa_M_49 : zFA "PointsToRoundsModel" 49 8 20 := ⟨R_M, F_M, 44, rfl, by decide, u_M, Or.inl ⟨_, k_818, Or.inl rfl⟩⟩
theorem fp_M_49 : zFP "PointsToRoundsModel" 49 8 20 (.array (.int)) true := ⟨R_M, F_M, 44, t_M, rfl, by decide, u_M, Or.inl ⟨_, k_818, Or.inl rfl⟩, t_M_ok, n_M, rfl, rfl, fun _ => ⟨rfl, k_818⟩⟩
theorem fa_M_52 : zFA "PointsToRoundsModel" 52 8 21 := ⟨R_M, F_M, 44, rfl, by decide, u_M, Or.inl ⟨_, k_819, Or.inl rfl⟩⟩
theorem fp_M_52 : zFP "PointsToRoundsModel" 52 8 21 (.array (.int)) true := ⟨R_M, F_M, 44, t_M, rfl, by decide, u_M, Or.inl ⟨_, k_819, Or.inl rfl⟩, t_M_ok, n_M, rfl, rfl, fun _ => ⟨rfl, k_819⟩⟩
theorem fa_M_55 : zFA "PointsToRoundsModel" 55 8 22 := ⟨R_M, F_M, 44, rfl, by decide, u_M, Or.inl ⟨_, k_820, Or.inl rfl⟩⟩
theorem fp_M_55 : zFP "PointsToRoundsModel" 55 8 22 (.array (.int)) true := ⟨R_M, F_M, 44, t_M, rfl, by decide, u_M, Or.inl ⟨_, k_820, Or.inl rfl⟩, t_M_ok, n_M, rfl, rfl, fun _ => ⟨rfl, k_820⟩⟩
theorem fa_M_58 : zFA "PointsToRoundsModel" 58 8 23 := ⟨R_M, F_M, 44, rfl, by decide, u_M, Or.inl ⟨_, k_821, Or.inl rfl⟩⟩
theorem fp_M_58 : zFP "PointsToRoundsModel" 58 8 23 (.array (.int)) true := ⟨R_M, F_M, 44, t_M, rfl, by decide, u_M, Or.inl ⟨_, k_821, Or.inl rfl⟩, t_M_ok, n_M, rfl, rfl, fun _ => ⟨rfl, k_821⟩⟩
theorem fa_M_61 : zFA "PointsToRoundsModel" 61 8 24 := ⟨R_M, F_M, 44, rfl, by decide, u_M, Or.inl ⟨_, k_822, Or.inl rfl⟩⟩
theorem fp_M_61 : zFP "PointsToRoundsModel" 61 8 24 (.array (.int)) true := ⟨R_M, F_M, 44, t_M, rfl, by decide, u_M, Or.inl ⟨_, k_822, Or.inl rfl⟩, t_M_ok, n_M, rfl, rfl, fun _ => ⟨rfl, k_822⟩⟩
theorem fa_M_64 : zFA "PointsToRoundsModel" 64 8 25 := ⟨R_M, F_M, 44, rfl, by decide, u_M, Or.inl ⟨_, k_823, Or.inl rfl⟩⟩
theorem fp_M_64 : zFP "PointsToRoundsModel" 64 8 25 (.array (.int)) true := ⟨R_M, F_M, 44, t_M, rfl, by decide, u_M, Or.inl ⟨_, k_823, Or.inl rfl⟩, t_M_ok, n_M, rfl, rfl, fun _ => ⟨rfl, k_823⟩⟩
theorem fa_M_67 : zFA "PointsToRoundsModel" 67 8 26 := ⟨R_M, F_M, 44, rfl, by decide, u_M, Or.inl ⟨_, k_824, Or.inl rfl⟩⟩
theorem fp_M_67 : zFP "PointsToRoundsModel" 67 8 26 (.array (.int)) true := ⟨R_M, F_M, 44, t_M, rfl, by decide, u_M, Or.inl ⟨_, k_824, Or.inl rfl⟩, t_M_ok, n_M, rfl, rfl, fun _ => ⟨rfl, k_824⟩⟩
theorem fa_M_70 : zFA "PointsToRoundsModel" 70 8 27 := ⟨R_M, F_M, 44, rfl, by decide, u_M, Or.inl ⟨_, k_825, Or.inl rfl⟩⟩
theorem fp_M_70 : zFP "PointsToRoundsModel" 70 8 27 (.array (.int)) true := ⟨R_M, F_M, 44, t_M, rfl, by decide, u_M, Or.inl ⟨_, k_825, Or.inl rfl⟩, t_M_ok, n_M, rfl, rfl, fun _ => ⟨rfl, k_825⟩⟩
theorem fa_M_73 : zFA "PointsToRoundsModel" 73 8 28 := ⟨R_M, F_M, 44, rfl, by decide, u_M, Or.inl ⟨_, k_826, Or.inl rfl⟩⟩
theorem fp_M_73 : zFP "PointsToRoundsModel" 73 8 28 (.array (.int)) true := ⟨R_M, F_M, 44, t_M, rfl, by decide, u_M, Or.inl ⟨_, k_826, Or.inl rfl⟩, t_M_ok, n_M, rfl, rfl, fun _ => ⟨rfl, k_826⟩⟩
theorem fa_M_76 : zFA "PointsToRoundsModel" 76 8 29 := ⟨R_M, F_M, 44, rfl, by decide, u_M, Or.inl ⟨_, k_827, Or.inl rfl⟩⟩
theorem fp_M_76 : zFP "PointsToRoundsModel" 76 8 29 (.array (.int)) true := ⟨R_M, F_M, 44, t_M, rfl, by decide, u_M, Or.inl ⟨_, k_827, Or.inl rfl⟩, t_M_ok, n_M, rfl, rfl, fun _ => ⟨rfl, k_827⟩⟩
theorem fa_M_79 : zFA "PointsToRoundsModel" 79 8 30 := ⟨R_M, F_M, 44, rfl, by decide, u_M, Or.inl ⟨_, k_828, Or.inl rfl⟩⟩
theorem fp_M_79 : zFP "PointsToRoundsModel" 79 8 30 (.array (.int)) true := ⟨R_M, F_M, 44, t_M, rfl, by decide, u_M, Or.inl ⟨_, k_828, Or.inl rfl⟩, t_M_ok, n_M, rfl, rfl, fun _ => ⟨rfl, k_828⟩⟩
theorem fa_M_189 : zFA "PointsToRoundsModel" 189 8 31 := ⟨R_M, F_M, 44, rfl, by decide, u_M, Or.inl ⟨_, k_829, Or.inl rfl⟩⟩
theorem fp_M_189 : zFP "PointsToRoundsModel" 189 8 31 (.int) false := ⟨R_M, F_M, 44, t_M, rfl, by decide, u_M, Or.inl ⟨_, k_829, Or.inl rfl⟩, t_M_ok, n_M, rfl, rfl, fun h => absurd h (by decide)⟩
theorem fa_M_219 : zFA "PointsToRoundsModel" 219 8 32 := ⟨R_M, F_M, 44, rfl, by decide, u_M, Or.inl ⟨_, k_830, Or.inl rfl⟩⟩
theorem fp_M_219 : zFP "PointsToRoundsModel" 219 8 32 (.int) false := ⟨R_M, F_M, 44, t_M, rfl, by decide, u_M, Or.inl ⟨_, k_830, Or.inl rfl⟩, t_M_ok, n_M, rfl, rfl, fun h => absurd h (by decide)⟩
theorem fa_M_82 : zFA "PointsToRoundsModel" 82 8 33 := ⟨R_M, F_M, 44, rfl, by decide, u_M, Or.inl ⟨_, k_831, Or.inl rfl⟩⟩
theorem fp_M_82 : zFP "PointsToRoundsModel" 82 8 33 (.array (.int)) true := ⟨R_M, F_M, 44, t_M, rfl, by decide, u_M, Or.inl ⟨_, k_831, Or.inl rfl⟩, t_M_ok, n_M, rfl, rfl, fun _ => ⟨rfl, k_831⟩⟩
theorem fa_M_85 : zFA "PointsToRoundsModel" 85 8 34 := ⟨R_M, F_M, 44, rfl, by decide, u_M, Or.inl ⟨_, k_832, Or.inl rfl⟩⟩
theorem fp_M_85 : zFP "PointsToRoundsModel" 85 8 34 (.array (.int)) true := ⟨R_M, F_M, 44, t_M, rfl, by decide, u_M, Or.inl ⟨_, k_832, Or.inl rfl⟩, t_M_ok, n_M, rfl, rfl, fun _ => ⟨rfl, k_832⟩⟩
theorem fa_M_88 : zFA "PointsToRoundsModel" 88 8 35 := ⟨R_M, F_M, 44, rfl, by decide, u_M, Or.inl ⟨_, k_833, Or.inl rfl⟩⟩
theorem fp_M_88 : zFP "PointsToRoundsModel" 88 8 35 (.array (.int)) true := ⟨R_M, F_M, 44, t_M, rfl, by decide, u_M, Or.inl ⟨_, k_833, Or.inl rfl⟩, t_M_ok, n_M, rfl, rfl, fun _ => ⟨rfl, k_833⟩⟩
theorem fa_M_91 : zFA "PointsToRoundsModel" 91 8 36 := ⟨R_M, F_M, 44, rfl, by decide, u_M, Or.inl ⟨_, k_834, Or.inl rfl⟩⟩
theorem fp_M_91 : zFP "PointsToRoundsModel" 91 8 36 (.array (.int)) true := ⟨R_M, F_M, 44, t_M, rfl, by decide, u_M, Or.inl ⟨_, k_834, Or.inl rfl⟩, t_M_ok, n_M, rfl, rfl, fun _ => ⟨rfl, k_834⟩⟩
theorem fa_M_222 : zFA "PointsToRoundsModel" 222 8 37 := ⟨R_M, F_M, 44, rfl, by decide, u_M, Or.inl ⟨_, k_835, Or.inl rfl⟩⟩
theorem fp_M_222 : zFP "PointsToRoundsModel" 222 8 37 (.int) false := ⟨R_M, F_M, 44, t_M, rfl, by decide, u_M, Or.inl ⟨_, k_835, Or.inl rfl⟩, t_M_ok, n_M, rfl, rfl, fun h => absurd h (by decide)⟩
theorem fa_M_94 : zFA "PointsToRoundsModel" 94 8 38 := ⟨R_M, F_M, 44, rfl, by decide, u_M, Or.inl ⟨_, k_836, Or.inl rfl⟩⟩
theorem fp_M_94 : zFP "PointsToRoundsModel" 94 8 38 (.array (.int)) true := ⟨R_M, F_M, 44, t_M, rfl, by decide, u_M, Or.inl ⟨_, k_836, Or.inl rfl⟩, t_M_ok, n_M, rfl, rfl, fun _ => ⟨rfl, k_836⟩⟩
theorem fa_M_97 : zFA "PointsToRoundsModel" 97 8 39 := ⟨R_M, F_M, 44, rfl, by decide, u_M, Or.inl ⟨_, k_837, Or.inl rfl⟩⟩
theorem fp_M_97 : zFP "PointsToRoundsModel" 97 8 39 (.array (.int)) true := ⟨R_M, F_M, 44, t_M, rfl, by decide, u_M, Or.inl ⟨_, k_837, Or.inl rfl⟩, t_M_ok, n_M, rfl, rfl, fun _ => ⟨rfl, k_837⟩⟩
theorem fa_M_100 : zFA "PointsToRoundsModel" 100 8 40 := ⟨R_M, F_M, 44, rfl, by decide, u_M, Or.inl ⟨_, k_838, Or.inl rfl⟩⟩
theorem fp_M_100 : zFP "PointsToRoundsModel" 100 8 40 (.array (.int)) true := ⟨R_M, F_M, 44, t_M, rfl, by decide, u_M, Or.inl ⟨_, k_838, Or.inl rfl⟩, t_M_ok, n_M, rfl, rfl, fun _ => ⟨rfl, k_838⟩⟩
theorem fa_M_103 : zFA "PointsToRoundsModel" 103 8 41 := ⟨R_M, F_M, 44, rfl, by decide, u_M, Or.inl ⟨_, k_839, Or.inl rfl⟩⟩
theorem fp_M_103 : zFP "PointsToRoundsModel" 103 8 41 (.array (.int)) true := ⟨R_M, F_M, 44, t_M, rfl, by decide, u_M, Or.inl ⟨_, k_839, Or.inl rfl⟩, t_M_ok, n_M, rfl, rfl, fun _ => ⟨rfl, k_839⟩⟩
theorem fa_M_106 : zFA "PointsToRoundsModel" 106 8 42 := ⟨R_M, F_M, 44, rfl, by decide, u_M, Or.inl ⟨_, k_840, Or.inl rfl⟩⟩
theorem fp_M_106 : zFP "PointsToRoundsModel" 106 8 42 (.array (.int)) true := ⟨R_M, F_M, 44, t_M, rfl, by decide, u_M, Or.inl ⟨_, k_840, Or.inl rfl⟩, t_M_ok, n_M, rfl, rfl, fun _ => ⟨rfl, k_840⟩⟩
theorem fa_M_225 : zFA "PointsToRoundsModel" 225 8 43 := ⟨R_M, F_M, 44, rfl, by decide, u_M, Or.inl ⟨_, k_841, Or.inl rfl⟩⟩
theorem fp_M_225 : zFP "PointsToRoundsModel" 225 8 43 (.int) false := ⟨R_M, F_M, 44, t_M, rfl, by decide, u_M, Or.inl ⟨_, k_841, Or.inl rfl⟩, t_M_ok, n_M, rfl, rfl, fun h => absurd h (by decide)⟩
theorem cb_P_init : zCB y_P_init b_P_init 1 none 0 := ⟨k_83, k_60, ⟨by decide, by decide⟩, by decide +kernel⟩
theorem ii_P_init : y_P_init.name = "<init>" ∧ Cond.instanceMethod y_P_init ∈ zT := ⟨rfl, k_82⟩
theorem cb_AL_init : zCB y_AL_init b_AL_init 1 none 0 := ⟨k_91, k_63, ⟨by decide, by decide⟩, by decide +kernel⟩
theorem ii_AL_init : y_AL_init.name = "<init>" ∧ Cond.instanceMethod y_AL_init ∈ zT := ⟨rfl, k_90⟩
theorem cb_AbL_init : zCB y_AbL_init b_AbL_init 1 none 0 := ⟨k_94, k_62, ⟨by decide, by decide⟩, by decide +kernel⟩
theorem ii_AbL_init : y_AbL_init.name = "<init>" ∧ Cond.instanceMethod y_AbL_init ∈ zT := ⟨rfl, k_93⟩
theorem cb_AbC_init : zCB y_AbC_init b_AbC_init 1 none 0 := ⟨k_97, k_61, ⟨by decide, by decide⟩, by decide +kernel⟩
theorem ii_AbC_init : y_AbC_init.name = "<init>" ∧ Cond.instanceMethod y_AbC_init ∈ zT := ⟨rfl, k_96⟩
theorem cb_Se_init : zCB y_Se_init b_Se_init 3 none 1 := ⟨k_118, k_64, ⟨by decide, by decide⟩, by decide +kernel⟩
theorem ii_Se_init : y_Se_init.name = "<init>" ∧ Cond.instanceMethod y_Se_init ∈ zT := ⟨rfl, k_117⟩
theorem cb_Bo_init : zCB y_Bo_init b_Bo_init 2 none 0 := ⟨k_126, k_65, ⟨by decide, by decide⟩, by decide +kernel⟩
theorem ii_Bo_init : y_Bo_init.name = "<init>" ∧ Cond.instanceMethod y_Bo_init ∈ zT := ⟨rfl, k_125⟩
theorem cb_Ce_init : zCB y_Ce_init b_Ce_init 1 none 0 := ⟨k_134, k_66, ⟨by decide, by decide⟩, by decide +kernel⟩
theorem ii_Ce_init : y_Ce_init.name = "<init>" ∧ Cond.instanceMethod y_Ce_init ∈ zT := ⟨rfl, k_133⟩
theorem cb_AL_add0 : zCB y_AL_add0 b_AL_add0 2 (some .boolean) 1 := ⟨k_159, k_63, ⟨by decide, by decide⟩, by decide +kernel⟩
theorem cb_AL_add1 : zCB y_AL_add1 b_AL_add1 4 none 3 := ⟨k_163, k_63, ⟨by decide, by decide⟩, by decide +kernel⟩
theorem ci_AL_add1 : zCI y_AL_add1 9 := ⟨k_162, (R_AL, F_AL, 3), rfl, k_0⟩
theorem cb_AL_grow0 : zCB y_AL_grow0 b_AL_grow0 1 (some (.array (.object "java/lang/Object"))) 0 := ⟨k_167, k_63, ⟨by decide, by decide⟩, by decide +kernel⟩
theorem ci_AL_grow0 : zCI y_AL_grow0 9 := ⟨k_166, (R_AL, F_AL, 3), rfl, k_1⟩
theorem cb_AL_grow1 : zCB y_AL_grow1 b_AL_grow1 4 (some (.array (.object "java/lang/Object"))) 1 := ⟨k_171, k_63, ⟨by decide, by decide⟩, by decide +kernel⟩
theorem ci_AL_grow1 : zCI y_AL_grow1 9 := ⟨k_170, (R_AL, F_AL, 3), rfl, k_2⟩
theorem cb_ArS_newLength : zCB y_ArS_newLength b_ArS_newLength 4 (some .int) 3 := ⟨k_174, k_67, ⟨by decide, by decide⟩, by decide +kernel⟩
theorem cs_ArS_newLength : Cond.static y_ArS_newLength ∈ zT := k_173
theorem cb_Mth_max : zCB y_Mth_max b_Mth_max 2 (some .int) 2 := ⟨k_177, k_68, ⟨by decide, by decide⟩, by decide +kernel⟩
theorem cs_Mth_max : Cond.static y_Mth_max ∈ zT := k_176
theorem cb_ArS_hugeLength : zCB y_ArS_hugeLength b_ArS_hugeLength 3 (some .int) 2 := ⟨k_181, k_67, ⟨by decide, by decide⟩, by decide +kernel⟩
theorem cs_ArS_hugeLength : Cond.static y_ArS_hugeLength ∈ zT := k_180
theorem cb_Ars_copyOf0 : zCB y_Ars_copyOf0 b_Ars_copyOf0 2 (some (.array (.object "java/lang/Object"))) 2 := ⟨k_184, k_69, ⟨by decide, by decide⟩, by decide +kernel⟩
theorem cs_Ars_copyOf0 : Cond.static y_Ars_copyOf0 ∈ zT := k_183
theorem cb_Ars_copyOf1 : zCB y_Ars_copyOf1 b_Ars_copyOf1 4 (some (.array (.object "java/lang/Object"))) 3 := ⟨k_202, k_69, ⟨by decide, by decide⟩, by decide +kernel⟩
theorem cs_Ars_copyOf1 : Cond.static y_Ars_copyOf1 ∈ zT := k_201
theorem cb_Mth_min : zCB y_Mth_min b_Mth_min 2 (some .int) 2 := ⟨k_208, k_68, ⟨by decide, by decide⟩, by decide +kernel⟩
theorem cs_Mth_min : Cond.static y_Mth_min ∈ zT := k_207
theorem cb_P_cls : zCB y_P_cls b_P_cls 2 (some .int) 1 := ⟨k_319, k_60, ⟨by decide, by decide⟩, by decide +kernel⟩
theorem ci_P_cls : zCI y_P_cls 0 := ⟨k_317, (R_P, F_P, 15), rfl, k_318⟩
theorem cb_P_isClass : zCB y_P_isClass b_P_isClass 2 (some .boolean) 1 := ⟨k_323, k_60, ⟨by decide, by decide⟩, by decide +kernel⟩
theorem ci_P_isClass : zCI y_P_isClass 0 := ⟨k_322, (R_P, F_P, 15), rfl, k_3⟩
theorem cb_P_change : zCB y_P_change b_P_change 1 none 0 := ⟨k_327, k_60, ⟨by decide, by decide⟩, by decide +kernel⟩
theorem ci_P_change : zCI y_P_change 0 := ⟨k_326, (R_P, F_P, 15), rfl, k_4⟩
theorem cb_P_field : zCB y_P_field b_P_field 2 (some .int) 1 := ⟨k_331, k_60, ⟨by decide, by decide⟩, by decide +kernel⟩
theorem ci_P_field : zCI y_P_field 0 := ⟨k_329, (R_P, F_P, 15), rfl, k_330⟩
theorem cb_P_method : zCB y_P_method b_P_method 4 (some .int) 2 := ⟨k_335, k_60, ⟨by decide, by decide⟩, by decide +kernel⟩
theorem ci_P_method : zCI y_P_method 0 := ⟨k_333, (R_P, F_P, 15), rfl, k_334⟩
theorem cb_P_statement : zCB y_P_statement b_P_statement 9 (some .int) 7 := ⟨k_341, k_60, ⟨by decide, by decide⟩, by decide +kernel⟩
theorem ci_P_statement : zCI y_P_statement 0 := ⟨k_339, (R_P, F_P, 15), rfl, k_340⟩
theorem cb_P_isMethod : zCB y_P_isMethod b_P_isMethod 2 (some .boolean) 1 := ⟨k_345, k_60, ⟨by decide, by decide⟩, by decide +kernel⟩
theorem ci_P_isMethod : zCI y_P_isMethod 0 := ⟨k_344, (R_P, F_P, 15), rfl, k_5⟩
theorem cb_P_areGood : zCB y_P_areGood b_P_areGood 7 (some .boolean) 6 := ⟨k_349, k_60, ⟨by decide, by decide⟩, by decide +kernel⟩
theorem ci_P_areGood : zCI y_P_areGood 0 := ⟨k_348, (R_P, F_P, 15), rfl, k_6⟩
theorem cb_P_isName : zCB y_P_isName b_P_isName 1 (some .boolean) 1 := ⟨k_352, k_60, ⟨by decide, by decide⟩, by decide +kernel⟩
theorem cs_P_isName : Cond.static y_P_isName ∈ zT := k_351
theorem cb_P_isField : zCB y_P_isField b_P_isField 2 (some .boolean) 1 := ⟨k_356, k_60, ⟨by decide, by decide⟩, by decide +kernel⟩
theorem ci_P_isField : zCI y_P_isField 0 := ⟨k_355, (R_P, F_P, 15), rfl, k_7⟩
theorem cb_P_isStatic : zCB y_P_isStatic b_P_isStatic 1 (some .boolean) 1 := ⟨k_359, k_60, ⟨by decide, by decide⟩, by decide +kernel⟩
theorem cs_P_isStatic : Cond.static y_P_isStatic ∈ zT := k_358
theorem cb_AL_size : zCB y_AL_size b_AL_size 1 (some .int) 0 := ⟨k_368, k_63, ⟨by decide, by decide⟩, by decide +kernel⟩
theorem cb_St_init : zCB y_St_init b_St_init 8 none 7 := ⟨k_373, k_72, ⟨by decide, by decide⟩, by decide +kernel⟩
theorem ii_St_init : y_St_init.name = "<init>" ∧ Cond.instanceMethod y_St_init ∈ zT := ⟨rfl, k_372⟩
theorem cb_AL_get : zCB y_AL_get b_AL_get 2 (some (.object "java/lang/Object")) 1 := ⟨k_427, k_63, ⟨by decide, by decide⟩, by decide +kernel⟩
theorem cb_Objs_checkIndex : zCB y_Objs_checkIndex b_Objs_checkIndex 2 (some .int) 2 := ⟨k_430, k_73, ⟨by decide, by decide⟩, by decide +kernel⟩
theorem cs_Objs_checkIndex : Cond.static y_Objs_checkIndex ∈ zT := k_429
theorem cb_Prc_checkIndex : zCB y_Prc_checkIndex b_Prc_checkIndex 3 (some .int) 3 := ⟨k_433, k_74, ⟨by decide, by decide⟩, by decide +kernel⟩
theorem cs_Prc_checkIndex : Cond.static y_Prc_checkIndex ∈ zT := k_432
theorem cb_AL_elementData : zCB y_AL_elementData b_AL_elementData 2 (some (.object "java/lang/Object")) 1 := ⟨k_437, k_63, ⟨by decide, by decide⟩, by decide +kernel⟩
theorem ci_AL_elementData : zCI y_AL_elementData 9 := ⟨k_435, (R_AL, F_AL, 3), rfl, k_436⟩
theorem cb_P_mode : zCB y_P_mode b_P_mode 3 (some .int) 1 := ⟨k_442, k_60, ⟨by decide, by decide⟩, by decide +kernel⟩
theorem ci_P_mode : zCI y_P_mode 0 := ⟨k_440, (R_P, F_P, 15), rfl, k_441⟩
theorem cb_P_clear : zCB y_P_clear b_P_clear 2 (some .int) 0 := ⟨k_446, k_60, ⟨by decide, by decide⟩, by decide +kernel⟩
theorem ci_P_clear : zCI y_P_clear 0 := ⟨k_444, (R_P, F_P, 15), rfl, k_445⟩
theorem cb_AL_clear : zCB y_AL_clear b_AL_clear 4 none 0 := ⟨k_455, k_63, ⟨by decide, by decide⟩, by decide +kernel⟩
theorem cb_P_points : zCB y_P_points b_P_points 4 (some .int) 3 := ⟨k_459, k_60, ⟨by decide, by decide⟩, by decide +kernel⟩
theorem ci_P_points : zCI y_P_points 0 := ⟨k_457, (R_P, F_P, 15), rfl, k_458⟩
theorem cb_P_find : zCB y_P_find b_P_find 1 none 0 := ⟨k_463, k_60, ⟨by decide, by decide⟩, by decide +kernel⟩
theorem ci_P_find : zCI y_P_find 0 := ⟨k_462, (R_P, F_P, 15), rfl, k_8⟩
theorem cb_Se_find : zCB y_Se_find b_Se_find 7 none 0 := ⟨k_467, k_64, ⟨by decide, by decide⟩, by decide +kernel⟩
theorem ci_Se_find : zCI y_Se_find 1 := ⟨k_465, (R_Se, F_Se, 7), rfl, k_466⟩
theorem cb_Se_clear : zCB y_Se_clear b_Se_clear 4 none 0 := ⟨k_471, k_64, ⟨by decide, by decide⟩, by decide +kernel⟩
theorem ci_Se_clear : zCI y_Se_clear 1 := ⟨k_470, (R_Se, F_Se, 7), rfl, k_9⟩
theorem cb_Bo_name : zCB y_Bo_name b_Bo_name 2 (some (.object "PointsToRounds$Cell")) 1 := ⟨k_479, k_65, ⟨by decide, by decide⟩, by decide +kernel⟩
theorem ci_Bo_name : zCI y_Bo_name 2 := ⟨k_477, (R_Bo, F_Bo, 4), rfl, k_478⟩
theorem cb_Ce_clear : zCB y_Ce_clear b_Ce_clear 1 none 0 := ⟨k_485, k_66, ⟨by decide, by decide⟩, by decide +kernel⟩
theorem ci_Ce_clear : zCI y_Ce_clear 3 := ⟨k_483, (R_Ce, F_Ce, 3), rfl, k_484⟩
theorem cb_Se_body : zCB y_Se_body b_Se_body 3 (some (.object "PointsToRounds$Body")) 2 := ⟨k_489, k_64, ⟨by decide, by decide⟩, by decide +kernel⟩
theorem ci_Se_body : zCI y_Se_body 1 := ⟨k_487, (R_Se, F_Se, 7), rfl, k_488⟩
theorem cb_Se_carry : zCB y_Se_carry b_Se_carry 5 none 3 := ⟨k_495, k_64, ⟨by decide, by decide⟩, by decide +kernel⟩
theorem ci_Se_carry : zCI y_Se_carry 1 := ⟨k_494, (R_Se, F_Se, 7), rfl, k_10⟩
theorem cb_Ce_add : zCB y_Ce_add b_Ce_add 2 none 1 := ⟨k_499, k_66, ⟨by decide, by decide⟩, by decide +kernel⟩
theorem ci_Ce_add : zCI y_Ce_add 3 := ⟨k_497, (R_Ce, F_Ce, 3), rfl, k_498⟩
theorem cb_Se_has : zCB y_Se_has b_Se_has 4 (some .boolean) 3 := ⟨k_503, k_64, ⟨by decide, by decide⟩, by decide +kernel⟩
theorem ci_Se_has : zCI y_Se_has 1 := ⟨k_502, (R_Se, F_Se, 7), rfl, k_11⟩
theorem cb_P_hasField : zCB y_P_hasField b_P_hasField 3 (some .boolean) 2 := ⟨k_507, k_60, ⟨by decide, by decide⟩, by decide +kernel⟩
theorem ci_P_hasField : zCI y_P_hasField 0 := ⟨k_506, (R_P, F_P, 15), rfl, k_12⟩
theorem cb_P_isUnder : zCB y_P_isUnder b_P_isUnder 4 (some .boolean) 2 := ⟨k_511, k_60, ⟨by decide, by decide⟩, by decide +kernel⟩
theorem ci_P_isUnder : zCI y_P_isUnder 0 := ⟨k_510, (R_P, F_P, 15), rfl, k_13⟩
theorem cb_Se_field : zCB y_Se_field b_Se_field 3 (some (.object "PointsToRounds$Cell")) 2 := ⟨k_515, k_64, ⟨by decide, by decide⟩, by decide +kernel⟩
theorem ci_Se_field : zCI y_Se_field 1 := ⟨k_513, (R_Se, F_Se, 7), rfl, k_514⟩
theorem cb_P_under : zCB y_P_under b_P_under 5 (some .int) 2 := ⟨k_519, k_60, ⟨by decide, by decide⟩, by decide +kernel⟩
theorem ci_P_under : zCI y_P_under 0 := ⟨k_518, (R_P, F_P, 15), rfl, k_14⟩
theorem cb_Se_call : zCB y_Se_call b_Se_call 6 none 3 := ⟨k_523, k_64, ⟨by decide, by decide⟩, by decide +kernel⟩
theorem ci_Se_call : zCI y_Se_call 1 := ⟨k_522, (R_Se, F_Se, 7), rfl, k_15⟩
theorem cb_P_found : zCB y_P_found b_P_found 5 (some .int) 2 := ⟨k_527, k_60, ⟨by decide, by decide⟩, by decide +kernel⟩
theorem ci_P_found : zCI y_P_found 0 := ⟨k_526, (R_P, F_P, 15), rfl, k_16⟩
theorem cb_Se_turn : zCB y_Se_turn b_Se_turn 6 (some .boolean) 0 := ⟨k_531, k_64, ⟨by decide, by decide⟩, by decide +kernel⟩
theorem ci_Se_turn : zCI y_Se_turn 1 := ⟨k_530, (R_Se, F_Se, 7), rfl, k_17⟩
theorem cb_Ce_turn : zCB y_Ce_turn b_Ce_turn 1 (some .boolean) 0 := ⟨k_535, k_66, ⟨by decide, by decide⟩, by decide +kernel⟩
theorem ci_Ce_turn : zCI y_Ce_turn 3 := ⟨k_533, (R_Ce, F_Ce, 3), rfl, k_534⟩
theorem cb_Se_note : zCB y_Se_note b_Se_note 6 none 3 := ⟨k_539, k_64, ⟨by decide, by decide⟩, by decide +kernel⟩
theorem ci_Se_note : zCI y_Se_note 1 := ⟨k_538, (R_Se, F_Se, 7), rfl, k_18⟩
theorem cb_Se_points : zCB y_Se_points b_Se_points 5 (some .int) 2 := ⟨k_543, k_64, ⟨by decide, by decide⟩, by decide +kernel⟩
theorem ci_Se_points : zCI y_Se_points 1 := ⟨k_541, (R_Se, F_Se, 7), rfl, k_542⟩
theorem cb_P_inField : zCB y_P_inField b_P_inField 3 (some .int) 2 := ⟨k_549, k_60, ⟨by decide, by decide⟩, by decide +kernel⟩
theorem ci_P_inField : zCI y_P_inField 0 := ⟨k_547, (R_P, F_P, 15), rfl, k_548⟩
theorem cb_P_isSite : zCB y_P_isSite b_P_isSite 2 (some .boolean) 1 := ⟨k_553, k_60, ⟨by decide, by decide⟩, by decide +kernel⟩
theorem ci_P_isSite : zCI y_P_isSite 0 := ⟨k_552, (R_P, F_P, 15), rfl, k_19⟩
theorem cb_P_element : zCB y_P_element b_P_element 2 (some .int) 1 := ⟨k_558, k_60, ⟨by decide, by decide⟩, by decide +kernel⟩
theorem ci_P_element : zCI y_P_element 0 := ⟨k_556, (R_P, F_P, 15), rfl, k_557⟩
theorem cb_P_inStatic : zCB y_P_inStatic b_P_inStatic 2 (some .int) 1 := ⟨k_563, k_60, ⟨by decide, by decide⟩, by decide +kernel⟩
theorem ci_P_inStatic : zCI y_P_inStatic 0 := ⟨k_561, (R_P, F_P, 15), rfl, k_562⟩
theorem cb_P_reached : zCB y_P_reached b_P_reached 4 (some .int) 1 := ⟨k_567, k_60, ⟨by decide, by decide⟩, by decide +kernel⟩
theorem ci_P_reached : zCI y_P_reached 0 := ⟨k_565, (R_P, F_P, 15), rfl, k_566⟩
theorem cb_P_may : zCB y_P_may b_P_may 7 (some .int) 1 := ⟨k_571, k_60, ⟨by decide, by decide⟩, by decide +kernel⟩
theorem ci_P_may : zCI y_P_may 0 := ⟨k_569, (R_P, F_P, 15), rfl, k_570⟩
theorem cb_P_alias : zCB y_P_alias b_P_alias 5 (some .int) 4 := ⟨k_577, k_60, ⟨by decide, by decide⟩, by decide +kernel⟩
theorem ci_P_alias : zCI y_P_alias 0 := ⟨k_575, (R_P, F_P, 15), rfl, k_576⟩
theorem cb_P_rounds : zCB y_P_rounds b_P_rounds 1 (some .int) 0 := ⟨k_581, k_60, ⟨by decide, by decide⟩, by decide +kernel⟩
theorem ci_P_rounds : zCI y_P_rounds 0 := ⟨k_579, (R_P, F_P, 15), rfl, k_580⟩
theorem cb_P_when : zCB y_P_when b_P_when 5 (some .int) 3 := ⟨k_585, k_60, ⟨by decide, by decide⟩, by decide +kernel⟩
theorem ci_P_when : zCI y_P_when 0 := ⟨k_583, (R_P, F_P, 15), rfl, k_584⟩
theorem cb_P_run : zCB y_P_run b_P_run 3 (some .int) 2 := ⟨k_589, k_60, ⟨by decide, by decide⟩, by decide +kernel⟩
theorem ci_P_run : zCI y_P_run 0 := ⟨k_587, (R_P, F_P, 15), rfl, k_588⟩
theorem cb_Ru_init : zCB y_Ru_init b_Ru_init 2 none 1 := ⟨k_594, k_75, ⟨by decide, by decide⟩, by decide +kernel⟩
theorem ii_Ru_init : y_Ru_init.name = "<init>" ∧ Cond.instanceMethod y_Ru_init ∈ zT := ⟨rfl, k_593⟩
theorem cb_AD_init : zCB y_AD_init b_AD_init 1 none 0 := ⟨k_602, k_76, ⟨by decide, by decide⟩, by decide +kernel⟩
theorem ii_AD_init : y_AD_init.name = "<init>" ∧ Cond.instanceMethod y_AD_init ∈ zT := ⟨rfl, k_601⟩
theorem cb_Ru_go : zCB y_Ru_go b_Ru_go 7 none 2 := ⟨k_647, k_75, ⟨by decide, by decide⟩, by decide +kernel⟩
theorem ci_Ru_go : zCI y_Ru_go 7 := ⟨k_645, (R_Ru, F_Ru, 7), rfl, k_646⟩
theorem cb_Fr_init : zCB y_Fr_init b_Fr_init 4 none 3 := ⟨k_652, k_77, ⟨by decide, by decide⟩, by decide +kernel⟩
theorem ii_Fr_init : y_Fr_init.name = "<init>" ∧ Cond.instanceMethod y_Fr_init ∈ zT := ⟨rfl, k_651⟩
theorem cb_AD_push : zCB y_AD_push b_AD_push 2 none 1 := ⟨k_675, k_76, ⟨by decide, by decide⟩, by decide +kernel⟩
theorem ci_AD_push : zCI y_AD_push 10 := ⟨k_673, (R_AD, F_AD, 3), rfl, k_674⟩
theorem cb_AD_addFirst : zCB y_AD_addFirst b_AD_addFirst 3 none 1 := ⟨k_679, k_76, ⟨by decide, by decide⟩, by decide +kernel⟩
theorem ci_AD_addFirst : zCI y_AD_addFirst 10 := ⟨k_677, (R_AD, F_AD, 3), rfl, k_678⟩
theorem cb_AD_dec : zCB y_AD_dec b_AD_dec 2 (some .int) 2 := ⟨k_682, k_76, ⟨by decide, by decide⟩, by decide +kernel⟩
theorem cs_AD_dec : Cond.static y_AD_dec ∈ zT := k_681
theorem cb_AD_grow : zCB y_AD_grow b_AD_grow 9 none 1 := ⟨k_686, k_76, ⟨by decide, by decide⟩, by decide +kernel⟩
theorem ci_AD_grow : zCI y_AD_grow 10 := ⟨k_685, (R_AD, F_AD, 3), rfl, k_20⟩
theorem cb_AD_newCapacity : zCB y_AD_newCapacity b_AD_newCapacity 5 (some .int) 2 := ⟨k_691, k_76, ⟨by decide, by decide⟩, by decide +kernel⟩
theorem ci_AD_newCapacity : zCI y_AD_newCapacity 10 := ⟨k_690, (R_AD, F_AD, 3), rfl, k_21⟩
theorem cb_AD_peek : zCB y_AD_peek b_AD_peek 1 (some (.object "java/lang/Object")) 0 := ⟨k_700, k_76, ⟨by decide, by decide⟩, by decide +kernel⟩
theorem ci_AD_peek : zCI y_AD_peek 10 := ⟨k_698, (R_AD, F_AD, 3), rfl, k_699⟩
theorem cb_AD_peekFirst : zCB y_AD_peekFirst b_AD_peekFirst 1 (some (.object "java/lang/Object")) 0 := ⟨k_704, k_76, ⟨by decide, by decide⟩, by decide +kernel⟩
theorem ci_AD_peekFirst : zCI y_AD_peekFirst 10 := ⟨k_702, (R_AD, F_AD, 3), rfl, k_703⟩
theorem cb_AD_elementAt : zCB y_AD_elementAt b_AD_elementAt 2 (some (.object "java/lang/Object")) 2 := ⟨k_707, k_76, ⟨by decide, by decide⟩, by decide +kernel⟩
theorem cs_AD_elementAt : Cond.static y_AD_elementAt ∈ zT := k_706
theorem cb_Ru_act : zCB y_Ru_act b_Ru_act 4 none 2 := ⟨k_717, k_75, ⟨by decide, by decide⟩, by decide +kernel⟩
theorem ci_Ru_act : zCI y_Ru_act 7 := ⟨k_716, (R_Ru, F_Ru, 7), rfl, k_22⟩
theorem cb_Th_init : zCB y_Th_init b_Th_init 2 none 1 := ⟨k_721, k_78, ⟨by decide, by decide⟩, by decide +kernel⟩
theorem ii_Th_init : y_Th_init.name = "<init>" ∧ Cond.instanceMethod y_Th_init ∈ zT := ⟨rfl, k_720⟩
theorem cb_Ru_call : zCB y_Ru_call b_Ru_call 6 none 3 := ⟨k_743, k_75, ⟨by decide, by decide⟩, by decide +kernel⟩
theorem ci_Ru_call : zCI y_Ru_call 7 := ⟨k_742, (R_Ru, F_Ru, 7), rfl, k_23⟩
theorem cb_AD_size : zCB y_AD_size b_AD_size 1 (some .int) 0 := ⟨k_747, k_76, ⟨by decide, by decide⟩, by decide +kernel⟩
theorem ci_AD_size : zCI y_AD_size 10 := ⟨k_745, (R_AD, F_AD, 3), rfl, k_746⟩
theorem cb_AD_sub : zCB y_AD_sub b_AD_sub 3 (some .int) 3 := ⟨k_750, k_76, ⟨by decide, by decide⟩, by decide +kernel⟩
theorem cs_AD_sub : Cond.static y_AD_sub ∈ zT := k_749
theorem cb_Ru_give : zCB y_Ru_give b_Ru_give 2 none 0 := ⟨k_755, k_75, ⟨by decide, by decide⟩, by decide +kernel⟩
theorem ci_Ru_give : zCI y_Ru_give 7 := ⟨k_754, (R_Ru, F_Ru, 7), rfl, k_24⟩
theorem cb_AD_pop : zCB y_AD_pop b_AD_pop 1 (some (.object "java/lang/Object")) 0 := ⟨k_759, k_76, ⟨by decide, by decide⟩, by decide +kernel⟩
theorem ci_AD_pop : zCI y_AD_pop 10 := ⟨k_757, (R_AD, F_AD, 3), rfl, k_758⟩
theorem cb_AD_removeFirst : zCB y_AD_removeFirst b_AD_removeFirst 2 (some (.object "java/lang/Object")) 0 := ⟨k_763, k_76, ⟨by decide, by decide⟩, by decide +kernel⟩
theorem ci_AD_removeFirst : zCI y_AD_removeFirst 10 := ⟨k_761, (R_AD, F_AD, 3), rfl, k_762⟩
theorem cb_AD_pollFirst : zCB y_AD_pollFirst b_AD_pollFirst 4 (some (.object "java/lang/Object")) 0 := ⟨k_767, k_76, ⟨by decide, by decide⟩, by decide +kernel⟩
theorem ci_AD_pollFirst : zCI y_AD_pollFirst 10 := ⟨k_765, (R_AD, F_AD, 3), rfl, k_766⟩
theorem cb_AD_inc : zCB y_AD_inc b_AD_inc 2 (some .int) 2 := ⟨k_770, k_76, ⟨by decide, by decide⟩, by decide +kernel⟩
theorem cs_AD_inc : Cond.static y_AD_inc ∈ zT := k_769
theorem cb_Ru_look : zCB y_Ru_look b_Ru_look 6 none 0 := ⟨k_774, k_75, ⟨by decide, by decide⟩, by decide +kernel⟩
theorem ci_Ru_look : zCI y_Ru_look 7 := ⟨k_773, (R_Ru, F_Ru, 7), rfl, k_25⟩
theorem cb_Ru_is : zCB y_Ru_is b_Ru_is 3 none 2 := ⟨k_780, k_75, ⟨by decide, by decide⟩, by decide +kernel⟩
theorem ci_Ru_is : zCI y_Ru_is 7 := ⟨k_779, (R_Ru, F_Ru, 7), rfl, k_26⟩
theorem cb_P_met : zCB y_P_met b_P_met 3 (some .int) 2 := ⟨k_786, k_60, ⟨by decide, by decide⟩, by decide +kernel⟩
theorem ci_P_met : zCI y_P_met 0 := ⟨k_784, (R_P, F_P, 15), rfl, k_785⟩
theorem cb_P_ran : zCB y_P_ran b_P_ran 2 (some .int) 1 := ⟨k_790, k_60, ⟨by decide, by decide⟩, by decide +kernel⟩
theorem ci_P_ran : zCI y_P_ran 0 := ⟨k_788, (R_P, F_P, 15), rfl, k_789⟩
theorem cb_M_init : zCB y_M_init b_M_init 1 none 0 := ⟨k_796, k_71, ⟨by decide, by decide⟩, by decide +kernel⟩
theorem ii_M_init : y_M_init.name = "<init>" ∧ Cond.instanceMethod y_M_init ∈ zT := ⟨rfl, k_795⟩
theorem cb_M_cls : zCB y_M_cls b_M_cls 2 (some .int) 1 := ⟨k_934, k_71, ⟨by decide, by decide⟩, by decide +kernel⟩
theorem ci_M_cls : zCI y_M_cls 8 := ⟨k_932, (R_M, F_M, 44), rfl, k_933⟩
theorem cb_M_change : zCB y_M_change b_M_change 1 none 0 := ⟨k_938, k_71, ⟨by decide, by decide⟩, by decide +kernel⟩
theorem ci_M_change : zCI y_M_change 8 := ⟨k_937, (R_M, F_M, 44), rfl, k_27⟩
theorem cb_M_forgetRun : zCB y_M_forgetRun b_M_forgetRun 2 none 0 := ⟨k_942, k_71, ⟨by decide, by decide⟩, by decide +kernel⟩
theorem ci_M_forgetRun : zCI y_M_forgetRun 8 := ⟨k_941, (R_M, F_M, 44), rfl, k_28⟩
theorem cb_M_field : zCB y_M_field b_M_field 2 (some .int) 1 := ⟨k_946, k_71, ⟨by decide, by decide⟩, by decide +kernel⟩
theorem ci_M_field : zCI y_M_field 8 := ⟨k_944, (R_M, F_M, 44), rfl, k_945⟩
theorem cb_M_isClass : zCB y_M_isClass b_M_isClass 2 (some .boolean) 1 := ⟨k_950, k_71, ⟨by decide, by decide⟩, by decide +kernel⟩
theorem ci_M_isClass : zCI y_M_isClass 8 := ⟨k_949, (R_M, F_M, 44), rfl, k_29⟩
theorem cb_M_method : zCB y_M_method b_M_method 3 (some .int) 2 := ⟨k_954, k_71, ⟨by decide, by decide⟩, by decide +kernel⟩
theorem ci_M_method : zCI y_M_method 8 := ⟨k_952, (R_M, F_M, 44), rfl, k_953⟩
theorem cb_M_methodWith : zCB y_M_methodWith b_M_methodWith 4 (some .int) 2 := ⟨k_958, k_71, ⟨by decide, by decide⟩, by decide +kernel⟩
theorem ci_M_methodWith : zCI y_M_methodWith 8 := ⟨k_957, (R_M, F_M, 44), rfl, k_30⟩
theorem cb_M_statement : zCB y_M_statement b_M_statement 9 (some .int) 7 := ⟨k_962, k_71, ⟨by decide, by decide⟩, by decide +kernel⟩
theorem ci_M_statement : zCI y_M_statement 8 := ⟨k_960, (R_M, F_M, 44), rfl, k_961⟩
theorem cb_M_isMethod : zCB y_M_isMethod b_M_isMethod 2 (some .boolean) 1 := ⟨k_966, k_71, ⟨by decide, by decide⟩, by decide +kernel⟩
theorem ci_M_isMethod : zCI y_M_isMethod 8 := ⟨k_965, (R_M, F_M, 44), rfl, k_31⟩
theorem cb_M_isGood : zCB y_M_isGood b_M_isGood 7 (some .boolean) 6 := ⟨k_970, k_71, ⟨by decide, by decide⟩, by decide +kernel⟩
theorem ci_M_isGood : zCI y_M_isGood 8 := ⟨k_969, (R_M, F_M, 44), rfl, k_32⟩
theorem cb_M_isName : zCB y_M_isName b_M_isName 1 (some .boolean) 1 := ⟨k_973, k_71, ⟨by decide, by decide⟩, by decide +kernel⟩
theorem cs_M_isName : Cond.static y_M_isName ∈ zT := k_972
theorem cb_M_isField : zCB y_M_isField b_M_isField 2 (some .boolean) 1 := ⟨k_977, k_71, ⟨by decide, by decide⟩, by decide +kernel⟩
theorem ci_M_isField : zCI y_M_isField 8 := ⟨k_976, (R_M, F_M, 44), rfl, k_33⟩
theorem cb_M_isStatic : zCB y_M_isStatic b_M_isStatic 1 (some .boolean) 1 := ⟨k_980, k_71, ⟨by decide, by decide⟩, by decide +kernel⟩
theorem cs_M_isStatic : Cond.static y_M_isStatic ∈ zT := k_979
theorem cb_M_mode : zCB y_M_mode b_M_mode 3 (some .int) 1 := ⟨k_984, k_71, ⟨by decide, by decide⟩, by decide +kernel⟩
theorem ci_M_mode : zCI y_M_mode 8 := ⟨k_982, (R_M, F_M, 44), rfl, k_983⟩
theorem cb_M_clear : zCB y_M_clear b_M_clear 2 (some .int) 0 := ⟨k_988, k_71, ⟨by decide, by decide⟩, by decide +kernel⟩
theorem ci_M_clear : zCI y_M_clear 8 := ⟨k_986, (R_M, F_M, 44), rfl, k_987⟩
theorem cb_M_points : zCB y_M_points b_M_points 4 (some .int) 3 := ⟨k_992, k_71, ⟨by decide, by decide⟩, by decide +kernel⟩
theorem ci_M_points : zCI y_M_points 8 := ⟨k_990, (R_M, F_M, 44), rfl, k_991⟩
theorem cb_M_isContext : zCB y_M_isContext b_M_isContext 2 (some .boolean) 1 := ⟨k_996, k_71, ⟨by decide, by decide⟩, by decide +kernel⟩
theorem ci_M_isContext : zCI y_M_isContext 8 := ⟨k_995, (R_M, F_M, 44), rfl, k_34⟩
theorem cb_M_know : zCB y_M_know b_M_know 4 none 0 := ⟨k_1000, k_71, ⟨by decide, by decide⟩, by decide +kernel⟩
theorem ci_M_know : zCI y_M_know 8 := ⟨k_999, (R_M, F_M, 44), rfl, k_35⟩
theorem cb_M_empty : zCB y_M_empty b_M_empty 2 none 0 := ⟨k_1004, k_71, ⟨by decide, by decide⟩, by decide +kernel⟩
theorem ci_M_empty : zCI y_M_empty 8 := ⟨k_1003, (R_M, F_M, 44), rfl, k_36⟩
theorem cb_M_copy : zCB y_M_copy b_M_copy 2 none 0 := ⟨k_1008, k_71, ⟨by decide, by decide⟩, by decide +kernel⟩
theorem ci_M_copy : zCI y_M_copy 8 := ⟨k_1007, (R_M, F_M, 44), rfl, k_37⟩
theorem cb_M_bring : zCB y_M_bring b_M_bring 7 none 2 := ⟨k_1012, k_71, ⟨by decide, by decide⟩, by decide +kernel⟩
theorem ci_M_bring : zCI y_M_bring 8 := ⟨k_1011, (R_M, F_M, 44), rfl, k_38⟩
theorem cb_M_nameAt : zCB y_M_nameAt b_M_nameAt 3 (some .int) 3 := ⟨k_1015, k_71, ⟨by decide, by decide⟩, by decide +kernel⟩
theorem cs_M_nameAt : Cond.static y_M_nameAt ∈ zT := k_1014
theorem cb_M_call : zCB y_M_call b_M_call 10 none 4 := ⟨k_1019, k_71, ⟨by decide, by decide⟩, by decide +kernel⟩
theorem ci_M_call : zCI y_M_call 8 := ⟨k_1018, (R_M, F_M, 44), rfl, k_39⟩
theorem cb_M_found : zCB y_M_found b_M_found 5 (some .int) 2 := ⟨k_1023, k_71, ⟨by decide, by decide⟩, by decide +kernel⟩
theorem ci_M_found : zCI y_M_found 8 := ⟨k_1022, (R_M, F_M, 44), rfl, k_40⟩
theorem cb_M_bringEach : zCB y_M_bringEach b_M_bringEach 8 none 4 := ⟨k_1027, k_71, ⟨by decide, by decide⟩, by decide +kernel⟩
theorem ci_M_bringEach : zCI y_M_bringEach 8 := ⟨k_1026, (R_M, F_M, 44), rfl, k_41⟩
theorem cb_M_hasField : zCB y_M_hasField b_M_hasField 3 (some .boolean) 2 := ⟨k_1031, k_71, ⟨by decide, by decide⟩, by decide +kernel⟩
theorem ci_M_hasField : zCI y_M_hasField 8 := ⟨k_1030, (R_M, F_M, 44), rfl, k_42⟩
theorem cb_M_isUnder : zCB y_M_isUnder b_M_isUnder 4 (some .boolean) 2 := ⟨k_1035, k_71, ⟨by decide, by decide⟩, by decide +kernel⟩
theorem ci_M_isUnder : zCI y_M_isUnder 8 := ⟨k_1034, (R_M, F_M, 44), rfl, k_43⟩
theorem cb_M_isSame : zCB y_M_isSame b_M_isSame 3 (some .boolean) 0 := ⟨k_1039, k_71, ⟨by decide, by decide⟩, by decide +kernel⟩
theorem ci_M_isSame : zCI y_M_isSame 8 := ⟨k_1038, (R_M, F_M, 44), rfl, k_44⟩
theorem cb_M_swap : zCB y_M_swap b_M_swap 2 none 0 := ⟨k_1043, k_71, ⟨by decide, by decide⟩, by decide +kernel⟩
theorem ci_M_swap : zCI y_M_swap 8 := ⟨k_1042, (R_M, F_M, 44), rfl, k_45⟩
theorem cb_M_note : zCB y_M_note b_M_note 7 none 1 := ⟨k_1047, k_71, ⟨by decide, by decide⟩, by decide +kernel⟩
theorem ci_M_note : zCI y_M_note 8 := ⟨k_1046, (R_M, F_M, 44), rfl, k_46⟩
theorem cb_M_allOf : zCB y_M_allOf b_M_allOf 5 (some .int) 2 := ⟨k_1051, k_71, ⟨by decide, by decide⟩, by decide +kernel⟩
theorem ci_M_allOf : zCI y_M_allOf 8 := ⟨k_1050, (R_M, F_M, 44), rfl, k_47⟩
theorem cb_M_inField : zCB y_M_inField b_M_inField 3 (some .int) 2 := ⟨k_1055, k_71, ⟨by decide, by decide⟩, by decide +kernel⟩
theorem ci_M_inField : zCI y_M_inField 8 := ⟨k_1053, (R_M, F_M, 44), rfl, k_1054⟩
theorem cb_M_isSite : zCB y_M_isSite b_M_isSite 2 (some .boolean) 1 := ⟨k_1059, k_71, ⟨by decide, by decide⟩, by decide +kernel⟩
theorem ci_M_isSite : zCI y_M_isSite 8 := ⟨k_1058, (R_M, F_M, 44), rfl, k_48⟩
theorem cb_M_element : zCB y_M_element b_M_element 2 (some .int) 1 := ⟨k_1063, k_71, ⟨by decide, by decide⟩, by decide +kernel⟩
theorem ci_M_element : zCI y_M_element 8 := ⟨k_1061, (R_M, F_M, 44), rfl, k_1062⟩
theorem cb_M_inStatic : zCB y_M_inStatic b_M_inStatic 2 (some .int) 1 := ⟨k_1067, k_71, ⟨by decide, by decide⟩, by decide +kernel⟩
theorem ci_M_inStatic : zCI y_M_inStatic 8 := ⟨k_1065, (R_M, F_M, 44), rfl, k_1066⟩
theorem cb_M_reached : zCB y_M_reached b_M_reached 4 (some .int) 1 := ⟨k_1071, k_71, ⟨by decide, by decide⟩, by decide +kernel⟩
theorem ci_M_reached : zCI y_M_reached 8 := ⟨k_1069, (R_M, F_M, 44), rfl, k_1070⟩
theorem cb_M_may : zCB y_M_may b_M_may 6 (some .int) 1 := ⟨k_1075, k_71, ⟨by decide, by decide⟩, by decide +kernel⟩
theorem ci_M_may : zCI y_M_may 8 := ⟨k_1073, (R_M, F_M, 44), rfl, k_1074⟩
theorem cb_M_alias : zCB y_M_alias b_M_alias 5 (some .int) 4 := ⟨k_1079, k_71, ⟨by decide, by decide⟩, by decide +kernel⟩
theorem ci_M_alias : zCI y_M_alias 8 := ⟨k_1077, (R_M, F_M, 44), rfl, k_1078⟩
theorem cb_M_rounds : zCB y_M_rounds b_M_rounds 1 (some .int) 0 := ⟨k_1083, k_71, ⟨by decide, by decide⟩, by decide +kernel⟩
theorem ci_M_rounds : zCI y_M_rounds 8 := ⟨k_1081, (R_M, F_M, 44), rfl, k_1082⟩
theorem cb_M_when : zCB y_M_when b_M_when 5 (some .int) 3 := ⟨k_1087, k_71, ⟨by decide, by decide⟩, by decide +kernel⟩
theorem ci_M_when : zCI y_M_when 8 := ⟨k_1085, (R_M, F_M, 44), rfl, k_1086⟩
theorem cb_M_run : zCB y_M_run b_M_run 10 (some .int) 2 := ⟨k_1091, k_71, ⟨by decide, by decide⟩, by decide +kernel⟩
theorem ci_M_run : zCI y_M_run 8 := ⟨k_1089, (R_M, F_M, 44), rfl, k_1090⟩
theorem cb_M_open : zCB y_M_open b_M_open 5 none 3 := ⟨k_1095, k_71, ⟨by decide, by decide⟩, by decide +kernel⟩
theorem ci_M_open : zCI y_M_open 8 := ⟨k_1094, (R_M, F_M, 44), rfl, k_49⟩
theorem cb_M_many : zCB y_M_many b_M_many 4 (some .int) 1 := ⟨k_1101, k_71, ⟨by decide, by decide⟩, by decide +kernel⟩
theorem ci_M_many : zCI y_M_many 8 := ⟨k_1100, (R_M, F_M, 44), rfl, k_50⟩
theorem cb_M_statementOf : zCB y_M_statementOf b_M_statementOf 5 (some .int) 2 := ⟨k_1105, k_71, ⟨by decide, by decide⟩, by decide +kernel⟩
theorem ci_M_statementOf : zCI y_M_statementOf 8 := ⟨k_1104, (R_M, F_M, 44), rfl, k_51⟩
theorem cb_M_act : zCB y_M_act b_M_act 6 none 1 := ⟨k_1109, k_71, ⟨by decide, by decide⟩, by decide +kernel⟩
theorem ci_M_act : zCI y_M_act 8 := ⟨k_1108, (R_M, F_M, 44), rfl, k_52⟩
theorem cb_M_make : zCB y_M_make b_M_make 4 none 2 := ⟨k_1113, k_71, ⟨by decide, by decide⟩, by decide +kernel⟩
theorem ci_M_make : zCI y_M_make 8 := ⟨k_1112, (R_M, F_M, 44), rfl, k_53⟩
theorem cb_M_canHave : zCB y_M_canHave b_M_canHave 3 (some .boolean) 2 := ⟨k_1117, k_71, ⟨by decide, by decide⟩, by decide +kernel⟩
theorem ci_M_canHave : zCI y_M_canHave 8 := ⟨k_1116, (R_M, F_M, 44), rfl, k_54⟩
theorem cb_M_enter : zCB y_M_enter b_M_enter 7 none 3 := ⟨k_1121, k_71, ⟨by decide, by decide⟩, by decide +kernel⟩
theorem ci_M_enter : zCI y_M_enter 8 := ⟨k_1120, (R_M, F_M, 44), rfl, k_55⟩
theorem cb_M_leave : zCB y_M_leave b_M_leave 1 none 0 := ⟨k_1125, k_71, ⟨by decide, by decide⟩, by decide +kernel⟩
theorem ci_M_leave : zCI y_M_leave 8 := ⟨k_1124, (R_M, F_M, 44), rfl, k_56⟩
theorem cb_M_holds : zCB y_M_holds b_M_holds 5 (some .boolean) 0 := ⟨k_1129, k_71, ⟨by decide, by decide⟩, by decide +kernel⟩
theorem ci_M_holds : zCI y_M_holds 8 := ⟨k_1128, (R_M, F_M, 44), rfl, k_57⟩
theorem cb_M_isIn : zCB y_M_isIn b_M_isIn 3 (some .boolean) 2 := ⟨k_1133, k_71, ⟨by decide, by decide⟩, by decide +kernel⟩
theorem ci_M_isIn : zCI y_M_isIn 8 := ⟨k_1132, (R_M, F_M, 44), rfl, k_58⟩
theorem cb_M_met : zCB y_M_met b_M_met 3 (some .int) 2 := ⟨k_1137, k_71, ⟨by decide, by decide⟩, by decide +kernel⟩
theorem ci_M_met : zCI y_M_met 8 := ⟨k_1135, (R_M, F_M, 44), rfl, k_1136⟩
theorem cb_M_ran : zCB y_M_ran b_M_ran 2 (some .int) 1 := ⟨k_1141, k_71, ⟨by decide, by decide⟩, by decide +kernel⟩
theorem ci_M_ran : zCI y_M_ran 8 := ⟨k_1139, (R_M, F_M, 44), rfl, k_1140⟩
theorem ln_Law_9 : zCL "PointsToRoundsLaw" 9 y_P_init := Or.inl k_81
theorem ln_P_1 : zCL "PointsToRounds" 1 y_Obj_init := Or.inl k_84
theorem ln_P_24 : zCL "PointsToRounds" 24 y_AL_init := Or.inl k_89
theorem ln_AL_1 : zCL "java/util/ArrayList" 1 y_AbL_init := Or.inl k_92
theorem ln_AbL_1 : zCL "java/util/AbstractList" 1 y_AbC_init := Or.inl k_95
theorem ln_AbC_1 : zCL "java/util/AbstractCollection" 1 y_Obj_init := Or.inl k_98
theorem ln_P_37 : zCL "PointsToRounds" 37 y_Se_init := Or.inl k_116
theorem ln_Se_9 : zCL "PointsToRounds$Sets" 9 y_Obj_init := Or.inl k_119
theorem ln_Se_17 : zCL "PointsToRounds$Sets" 17 y_AL_init := Or.inl k_121
theorem ln_Se_37 : zCL "PointsToRounds$Sets" 37 y_Bo_init := Or.inl k_124
theorem ln_Bo_3 : zCL "PointsToRounds$Body" 3 y_Obj_init := Or.inl k_127
theorem ln_Bo_11 : zCL "PointsToRounds$Body" 11 y_AL_init := Or.inl k_129
theorem ln_Bo_20 : zCL "PointsToRounds$Body" 20 y_Ce_init := Or.inr ⟨_, k_132⟩
theorem ln_Ce_1 : zCL "PointsToRounds$Cell" 1 y_Obj_init := Or.inl k_135
theorem ln_Bo_21 : zCL "PointsToRounds$Body" 21 ⟨"java/util/List", "add", "(Ljava/lang/Object;)Z"⟩ := Or.inl k_151
theorem ln_AL_131 : zCL "java/util/ArrayList" 131 y_AL_add1 := Or.inl k_160
theorem ln_AL_129 : zCL "java/util/ArrayList" 129 y_AL_grow0 := Or.inl k_164
theorem ln_AL_69 : zCL "java/util/ArrayList" 69 y_AL_grow1 := Or.inl k_168
theorem ln_AL_73 : zCL "java/util/ArrayList" 73 y_ArS_newLength := Or.inl k_172
theorem ln_ArS_194 : zCL "jdk/internal/util/ArraysSupport" 194 y_Mth_max := Or.inl k_175
theorem ln_ArS_201 : zCL "jdk/internal/util/ArraysSupport" 201 y_ArS_hugeLength := Or.inl k_179
theorem ln_AL_66 : zCL "java/util/ArrayList" 66 y_Ars_copyOf0 := Or.inl k_182
theorem ln_Ars_86 : zCL "java/util/Arrays" 86 ⟨"java/lang/Object", "getClass", "()Ljava/lang/Class;"⟩ := Or.inl k_185
theorem ln_Ars_300 : zCL "java/util/Arrays" 300 y_Ars_copyOf1 := Or.inl k_200
theorem ln_Ars_304 : zCL "java/util/Arrays" 304 y_Mth_min := Or.inl k_206
theorem ln_Ars_150 : zCL "java/util/Arrays" 150 ⟨"java/lang/System", "arraycopy", "(Ljava/lang/Object;ILjava/lang/Object;II)V"⟩ := Or.inl k_209
theorem ln_AL_79 : zCL "java/util/ArrayList" 79 y_Mth_max := Or.inl k_212
theorem ln_Se_38 : zCL "PointsToRounds$Sets" 38 ⟨"java/util/List", "add", "(Ljava/lang/Object;)Z"⟩ := Or.inl k_229
theorem ln_Se_46 : zCL "PointsToRounds$Sets" 46 y_Ce_init := Or.inr ⟨_, k_231⟩
theorem ln_Law_13 : zCL "PointsToRoundsLaw" 13 y_P_cls := Or.inl k_316
theorem ln_P_72 : zCL "PointsToRounds" 72 y_P_isClass := Or.inl k_320
theorem ln_P_76 : zCL "PointsToRounds" 76 y_P_change := Or.inl k_324
theorem ln_Law_18 : zCL "PointsToRoundsLaw" 18 y_P_field := Or.inl k_328
theorem ln_Law_22 : zCL "PointsToRoundsLaw" 22 y_P_method := Or.inl k_332
theorem ln_P_79 : zCL "PointsToRounds" 79 ⟨"java/util/List", "add", "(Ljava/lang/Object;)Z"⟩ := Or.inl k_337
theorem ln_Law_27 : zCL "PointsToRoundsLaw" 27 y_P_statement := Or.inl k_338
theorem ln_P_94 : zCL "PointsToRounds" 94 y_P_isMethod := Or.inl k_342
theorem ln_P_97 : zCL "PointsToRounds" 97 y_P_areGood := Or.inl k_346
theorem ln_P_85 : zCL "PointsToRounds" 85 y_P_isName := Or.inl k_350
theorem ln_P_88 : zCL "PointsToRounds" 88 y_P_isField := Or.inl k_353
theorem ln_P_91 : zCL "PointsToRounds" 91 y_P_isStatic := Or.inl k_357
theorem ln_P_101 : zCL "PointsToRounds" 101 ⟨"java/util/List", "size", "()I"⟩ := Or.inl k_361
theorem ln_P_107 : zCL "PointsToRounds" 107 y_St_init := Or.inl k_371
theorem ln_St_1 : zCL "PointsToRounds$Statement" 1 y_Obj_init := Or.inl k_374
theorem ln_P_113 : zCL "PointsToRounds" 113 ⟨"java/util/List", "get", "(I)Ljava/lang/Object;"⟩ := Or.inl k_420
theorem ln_AL_118 : zCL "java/util/ArrayList" 118 y_Objs_checkIndex := Or.inl k_428
theorem ln_Objs_105 : zCL "java/util/Objects" 105 y_Prc_checkIndex := Or.inl k_431
theorem ln_AL_123 : zCL "java/util/ArrayList" 123 y_AL_elementData := Or.inl k_434
theorem ln_Law_32 : zCL "PointsToRoundsLaw" 32 y_P_mode := Or.inl k_439
theorem ln_Law_36 : zCL "PointsToRoundsLaw" 36 y_P_clear := Or.inl k_443
theorem ln_P_120 : zCL "PointsToRounds" 120 ⟨"java/util/List", "clear", "()V"⟩ := Or.inl k_448
theorem ln_Law_41 : zCL "PointsToRoundsLaw" 41 y_P_points := Or.inl k_456
theorem ln_P_123 : zCL "PointsToRounds" 123 y_P_find := Or.inl k_460
theorem ln_P_63 : zCL "PointsToRounds" 63 y_Se_find := Or.inl k_464
theorem ln_Se_97 : zCL "PointsToRounds$Sets" 97 y_Se_clear := Or.inl k_468
theorem ln_Se_51 : zCL "PointsToRounds$Sets" 51 ⟨"java/util/List", "size", "()I"⟩ := Or.inl k_473
theorem ln_Se_47 : zCL "PointsToRounds$Sets" 47 ⟨"java/util/List", "get", "(I)Ljava/lang/Object;"⟩ := Or.inl k_475
theorem ln_Se_65 : zCL "PointsToRounds$Sets" 65 y_Bo_name := Or.inl k_476
theorem ln_Bo_27 : zCL "PointsToRounds$Body" 27 ⟨"java/util/List", "get", "(I)Ljava/lang/Object;"⟩ := Or.inl k_481
theorem ln_Se_69 : zCL "PointsToRounds$Sets" 69 y_Ce_clear := Or.inl k_482
theorem ln_Se_76 : zCL "PointsToRounds$Sets" 76 y_Se_body := Or.inl k_486
theorem ln_Se_103 : zCL "PointsToRounds$Sets" 103 y_Se_carry := Or.inl k_492
theorem ln_Se_117 : zCL "PointsToRounds$Sets" 117 y_Ce_add := Or.inl k_496
theorem ln_Se_126 : zCL "PointsToRounds$Sets" 126 y_Se_has := Or.inl k_500
theorem ln_Se_133 : zCL "PointsToRounds$Sets" 133 y_P_hasField := Or.inr ⟨_, k_504⟩
theorem ln_P_48 : zCL "PointsToRounds" 48 y_P_isUnder := Or.inl k_508
theorem ln_Se_137 : zCL "PointsToRounds$Sets" 137 y_Se_field := Or.inl k_512
theorem ln_Se_141 : zCL "PointsToRounds$Sets" 141 y_P_under := Or.inr ⟨_, k_516⟩
theorem ln_Se_145 : zCL "PointsToRounds$Sets" 145 y_Se_call := Or.inl k_520
theorem ln_Se_152 : zCL "PointsToRounds$Sets" 152 y_P_found := Or.inr ⟨_, k_524⟩
theorem ln_Se_107 : zCL "PointsToRounds$Sets" 107 y_Se_turn := Or.inl k_528
theorem ln_Se_80 : zCL "PointsToRounds$Sets" 80 y_Ce_turn := Or.inl k_532
theorem ln_Se_87 : zCL "PointsToRounds$Sets" 87 y_Se_note := Or.inl k_536
theorem ln_P_124 : zCL "PointsToRounds" 124 y_Se_points := Or.inl k_540
theorem ln_P_128 : zCL "PointsToRounds" 128 y_Se_body := Or.inl k_544
theorem ln_P_132 : zCL "PointsToRounds" 132 y_Bo_name := Or.inl k_545
theorem ln_Law_46 : zCL "PointsToRoundsLaw" 46 y_P_inField := Or.inl k_546
theorem ln_P_143 : zCL "PointsToRounds" 143 y_P_isSite := Or.inl k_550
theorem ln_P_146 : zCL "PointsToRounds" 146 y_Se_field := Or.inl k_554
theorem ln_Law_50 : zCL "PointsToRoundsLaw" 50 y_P_element := Or.inl k_555
theorem ln_Law_54 : zCL "PointsToRoundsLaw" 54 y_P_inStatic := Or.inl k_560
theorem ln_Law_58 : zCL "PointsToRoundsLaw" 58 y_P_reached := Or.inl k_564
theorem ln_Law_62 : zCL "PointsToRoundsLaw" 62 y_P_may := Or.inl k_568
theorem ln_P_171 : zCL "PointsToRounds" 171 y_P_under := Or.inl k_572
theorem ln_P_174 : zCL "PointsToRounds" 174 y_P_found := Or.inl k_573
theorem ln_Law_66 : zCL "PointsToRoundsLaw" 66 y_P_alias := Or.inl k_574
theorem ln_Law_71 : zCL "PointsToRoundsLaw" 71 y_P_rounds := Or.inl k_578
theorem ln_Law_75 : zCL "PointsToRoundsLaw" 75 y_P_when := Or.inl k_582
theorem ln_Law_79 : zCL "PointsToRoundsLaw" 79 y_P_run := Or.inl k_586
theorem ln_P_185 : zCL "PointsToRounds" 185 y_Ru_init := Or.inr ⟨_, k_592⟩
theorem ln_Ru_9 : zCL "PointsToRounds$Run" 9 y_Obj_init := Or.inl k_595
theorem ln_Ru_17 : zCL "PointsToRounds$Run" 17 y_AL_init := Or.inl k_597
theorem ln_Ru_24 : zCL "PointsToRounds$Run" 24 y_AD_init := Or.inl k_600
theorem ln_AD_42 : zCL "java/util/ArrayDeque" 42 y_AbC_init := Or.inl k_603
theorem ln_P_186 : zCL "PointsToRounds" 186 y_Ru_go := Or.inl k_644
theorem ln_Ru_45 : zCL "PointsToRounds$Run" 45 y_Fr_init := Or.inl k_650
theorem ln_Fr_1 : zCL "PointsToRounds$Frame" 1 y_Obj_init := Or.inl k_653
theorem ln_Ru_48 : zCL "PointsToRounds$Run" 48 y_AD_push := Or.inl k_672
theorem ln_AD_86 : zCL "java/util/ArrayDeque" 86 y_AD_addFirst := Or.inl k_676
theorem ln_AD_68 : zCL "java/util/ArrayDeque" 68 y_AD_dec := Or.inl k_680
theorem ln_AD_71 : zCL "java/util/ArrayDeque" 71 y_AD_grow := Or.inl k_683
theorem ln_AD_10 : zCL "java/util/ArrayDeque" 10 y_AD_newCapacity := Or.inl k_688
theorem ln_AD_14 : zCL "java/util/ArrayDeque" 14 y_Ars_copyOf0 := Or.inl k_693
theorem ln_AD_27 : zCL "java/util/ArrayDeque" 27 ⟨"java/lang/System", "arraycopy", "(Ljava/lang/Object;ILjava/lang/Object;II)V"⟩ := Or.inl k_694
theorem ln_Ru_57 : zCL "PointsToRounds$Run" 57 y_AD_peek := Or.inl k_697
theorem ln_AD_124 : zCL "java/util/ArrayDeque" 124 y_AD_peekFirst := Or.inl k_701
theorem ln_AD_103 : zCL "java/util/ArrayDeque" 103 y_AD_elementAt := Or.inl k_705
theorem ln_Ru_65 : zCL "PointsToRounds$Run" 65 ⟨"java/util/List", "get", "(I)Ljava/lang/Object;"⟩ := Or.inl k_709
theorem ln_Ru_71 : zCL "PointsToRounds$Run" 71 ⟨"java/util/List", "size", "()I"⟩ := Or.inl k_712
theorem ln_Ru_77 : zCL "PointsToRounds$Run" 77 y_Ru_act := Or.inl k_714
theorem ln_Ru_110 : zCL "PointsToRounds$Run" 110 y_Th_init := Or.inl k_719
theorem ln_Th_1 : zCL "PointsToRounds$Thing" 1 y_Obj_init := Or.inl k_722
theorem ln_Ru_113 : zCL "PointsToRounds$Run" 113 ⟨"java/util/List", "add", "(Ljava/lang/Object;)Z"⟩ := Or.inl k_737
theorem ln_Ru_121 : zCL "PointsToRounds$Run" 121 y_P_hasField := Or.inr ⟨_, k_738⟩
theorem ln_Ru_131 : zCL "PointsToRounds$Run" 131 y_P_isUnder := Or.inr ⟨_, k_739⟩
theorem ln_Ru_134 : zCL "PointsToRounds$Run" 134 y_Ru_call := Or.inl k_740
theorem ln_Ru_81 : zCL "PointsToRounds$Run" 81 y_AD_size := Or.inl k_744
theorem ln_AD_127 : zCL "java/util/ArrayDeque" 127 y_AD_sub := Or.inl k_748
theorem ln_Ru_142 : zCL "PointsToRounds$Run" 142 y_P_found := Or.inr ⟨_, k_751⟩
theorem ln_Ru_82 : zCL "PointsToRounds$Run" 82 y_Ru_give := Or.inl k_752
theorem ln_Ru_88 : zCL "PointsToRounds$Run" 88 y_AD_pop := Or.inl k_756
theorem ln_AD_118 : zCL "java/util/ArrayDeque" 118 y_AD_removeFirst := Or.inl k_760
theorem ln_AD_93 : zCL "java/util/ArrayDeque" 93 y_AD_pollFirst := Or.inl k_764
theorem ln_AD_74 : zCL "java/util/ArrayDeque" 74 y_AD_inc := Or.inl k_768
theorem ln_Ru_85 : zCL "PointsToRounds$Run" 85 y_Ru_look := Or.inl k_771
theorem ln_Ru_170 : zCL "PointsToRounds$Run" 170 y_Se_body := Or.inl k_775
theorem ln_Ru_176 : zCL "PointsToRounds$Run" 176 y_Bo_name := Or.inl k_776
theorem ln_Ru_182 : zCL "PointsToRounds$Run" 182 y_Ru_is := Or.inl k_777
theorem ln_Ru_193 : zCL "PointsToRounds$Run" 193 y_Se_field := Or.inl k_782
theorem ln_Law_83 : zCL "PointsToRoundsLaw" 83 y_P_met := Or.inl k_783
theorem ln_Law_87 : zCL "PointsToRoundsLaw" 87 y_P_ran := Or.inl k_787
theorem ln_P_203 : zCL "PointsToRounds" 203 y_AD_size := Or.inl k_791
theorem ln_Law_12 : zCL "PointsToRoundsLaw" 12 y_M_init := Or.inl k_794
theorem ln_M_1 : zCL "PointsToRoundsModel" 1 y_Obj_init := Or.inl k_797
theorem ln_Law_17 : zCL "PointsToRoundsLaw" 17 y_M_cls := Or.inl k_931
theorem ln_M_134 : zCL "PointsToRoundsModel" 134 y_M_change := Or.inl k_935
theorem ln_M_131 : zCL "PointsToRoundsModel" 131 y_M_forgetRun := Or.inl k_939
theorem ln_Law_21 : zCL "PointsToRoundsLaw" 21 y_M_field := Or.inl k_943
theorem ln_M_137 : zCL "PointsToRoundsModel" 137 y_M_isClass := Or.inl k_947
theorem ln_Law_26 : zCL "PointsToRoundsLaw" 26 y_M_method := Or.inl k_951
theorem ln_M_123 : zCL "PointsToRoundsModel" 123 y_M_methodWith := Or.inl k_955
theorem ln_Law_31 : zCL "PointsToRoundsLaw" 31 y_M_statement := Or.inl k_959
theorem ln_M_150 : zCL "PointsToRoundsModel" 150 y_M_isMethod := Or.inl k_963
theorem ln_M_153 : zCL "PointsToRoundsModel" 153 y_M_isGood := Or.inl k_967
theorem ln_M_141 : zCL "PointsToRoundsModel" 141 y_M_isName := Or.inl k_971
theorem ln_M_144 : zCL "PointsToRoundsModel" 144 y_M_isField := Or.inl k_974
theorem ln_M_147 : zCL "PointsToRoundsModel" 147 y_M_isStatic := Or.inl k_978
theorem ln_Law_35 : zCL "PointsToRoundsLaw" 35 y_M_mode := Or.inl k_981
theorem ln_Law_40 : zCL "PointsToRoundsLaw" 40 y_M_clear := Or.inl k_985
theorem ln_Law_45 : zCL "PointsToRoundsLaw" 45 y_M_points := Or.inl k_989
theorem ln_M_210 : zCL "PointsToRoundsModel" 210 y_M_isContext := Or.inl k_993
theorem ln_M_213 : zCL "PointsToRoundsModel" 213 y_M_know := Or.inl k_997
theorem ln_M_186 : zCL "PointsToRoundsModel" 186 y_M_empty := Or.inl k_1001
theorem ln_M_192 : zCL "PointsToRoundsModel" 192 y_M_copy := Or.inl k_1005
theorem ln_M_195 : zCL "PointsToRoundsModel" 195 y_M_bring := Or.inl k_1009
theorem ln_M_166 : zCL "PointsToRoundsModel" 166 y_M_nameAt := Or.inl k_1013
theorem ln_M_170 : zCL "PointsToRoundsModel" 170 y_M_call := Or.inl k_1016
theorem ln_M_180 : zCL "PointsToRoundsModel" 180 y_M_found := Or.inl k_1020
theorem ln_M_174 : zCL "PointsToRoundsModel" 174 y_M_bringEach := Or.inl k_1024
theorem ln_M_177 : zCL "PointsToRoundsModel" 177 y_M_hasField := Or.inl k_1028
theorem ln_M_119 : zCL "PointsToRoundsModel" 119 y_M_isUnder := Or.inl k_1032
theorem ln_M_199 : zCL "PointsToRoundsModel" 199 y_M_isSame := Or.inl k_1036
theorem ln_M_203 : zCL "PointsToRoundsModel" 203 y_M_swap := Or.inl k_1040
theorem ln_M_206 : zCL "PointsToRoundsModel" 206 y_M_note := Or.inl k_1044
theorem ln_M_183 : zCL "PointsToRoundsModel" 183 y_M_allOf := Or.inl k_1048
theorem ln_Law_49 : zCL "PointsToRoundsLaw" 49 y_M_inField := Or.inl k_1052
theorem ln_M_216 : zCL "PointsToRoundsModel" 216 y_M_isSite := Or.inl k_1056
theorem ln_Law_53 : zCL "PointsToRoundsLaw" 53 y_M_element := Or.inl k_1060
theorem ln_Law_57 : zCL "PointsToRoundsLaw" 57 y_M_inStatic := Or.inl k_1064
theorem ln_Law_61 : zCL "PointsToRoundsLaw" 61 y_M_reached := Or.inl k_1068
theorem ln_Law_65 : zCL "PointsToRoundsLaw" 65 y_M_may := Or.inl k_1072
theorem ln_Law_70 : zCL "PointsToRoundsLaw" 70 y_M_alias := Or.inl k_1076
theorem ln_Law_74 : zCL "PointsToRoundsLaw" 74 y_M_rounds := Or.inl k_1080
theorem ln_Law_78 : zCL "PointsToRoundsLaw" 78 y_M_when := Or.inl k_1084
theorem ln_Law_82 : zCL "PointsToRoundsLaw" 82 y_M_run := Or.inl k_1088
theorem ln_M_228 : zCL "PointsToRoundsModel" 228 y_M_open := Or.inl k_1092
theorem ln_M_246 : zCL "PointsToRoundsModel" 246 y_M_many := Or.inl k_1098
theorem ln_M_250 : zCL "PointsToRoundsModel" 250 y_M_statementOf := Or.inl k_1102
theorem ln_M_253 : zCL "PointsToRoundsModel" 253 y_M_act := Or.inl k_1106
theorem ln_M_232 : zCL "PointsToRoundsModel" 232 y_M_make := Or.inl k_1110
theorem ln_M_235 : zCL "PointsToRoundsModel" 235 y_M_canHave := Or.inl k_1114
theorem ln_M_238 : zCL "PointsToRoundsModel" 238 y_M_enter := Or.inl k_1118
theorem ln_M_256 : zCL "PointsToRoundsModel" 256 y_M_leave := Or.inl k_1122
theorem ln_M_259 : zCL "PointsToRoundsModel" 259 y_M_holds := Or.inl k_1126
theorem ln_M_241 : zCL "PointsToRoundsModel" 241 y_M_isIn := Or.inl k_1130
theorem ln_Law_86 : zCL "PointsToRoundsLaw" 86 y_M_met := Or.inl k_1134
theorem ln_Law_90 : zCL "PointsToRoundsLaw" 90 y_M_ran := Or.inl k_1138
theorem nw_Law_7 : zNW "PointsToRoundsLaw" 7 0 15 [.null, .int 0, .null, .int 0, .null, .null, .int 0, .null, .null, .null, .int 0, .int 0, .null, .int 0, .null] := ⟨R_P, F_P, t_P, rfl, u_P, t_P_ok, k_79, k_80, k_60, by decide⟩
theorem nw_P_22 : zNW "PointsToRounds" 22 9 3 [.int 0, .null, .int 0] := ⟨R_AL, F_AL, t_AL, rfl, u_AL, t_AL_ok, k_87, k_88, k_63, by decide⟩
theorem nw_P_35 : zNW "PointsToRounds" 35 1 7 [.null, .null, .null, .null, .null, .int 0, .null] := ⟨R_Se, F_Se, t_Se, rfl, u_Se, t_Se_ok, k_114, k_115, k_64, by decide⟩
theorem nw_Se_15 : zNW "PointsToRounds$Sets" 15 9 3 [.int 0, .null, .int 0] := ⟨R_AL, F_AL, t_AL, rfl, u_AL, t_AL_ok, k_120, k_88, k_63, by decide⟩
theorem nw_Se_35 : zNW "PointsToRounds$Sets" 35 2 4 [.int 0, .int 0, .int 0, .null] := ⟨R_Bo, F_Bo, t_Bo, rfl, u_Bo, t_Bo_ok, k_122, k_123, k_65, by decide⟩
theorem nw_Bo_9 : zNW "PointsToRounds$Body" 9 9 3 [.int 0, .null, .int 0] := ⟨R_AL, F_AL, t_AL, rfl, u_AL, t_AL_ok, k_128, k_88, k_63, by decide⟩
theorem nw_Bo_18 : zNW "PointsToRounds$Body" 18 3 3 [.int 0, .int 0, .int 0] := ⟨R_Ce, F_Ce, t_Ce, rfl, u_Ce, t_Ce_ok, k_130, k_131, k_66, by decide⟩
theorem nw_Se_44 : zNW "PointsToRounds$Sets" 44 3 3 [.int 0, .int 0, .int 0] := ⟨R_Ce, F_Ce, t_Ce, rfl, u_Ce, t_Ce_ok, k_230, k_131, k_66, by decide⟩
theorem nw_P_105 : zNW "PointsToRounds" 105 4 8 [.int 0, .int 0, .int 0, .int 0, .int 0, .int 0, .int 0, .int 0] := ⟨R_St, F_St, t_St, rfl, u_St, t_St_ok, k_369, k_370, k_72, by decide⟩
theorem nw_Se_101 : zNW "PointsToRounds$Sets" 101 4 8 [.int 0, .int 0, .int 0, .int 0, .int 0, .int 0, .int 0, .int 0] := ⟨R_St, F_St, t_St, rfl, u_St, t_St_ok, k_491, k_370, k_72, by decide⟩
theorem nw_P_139 : zNW "PointsToRounds" 139 3 3 [.int 0, .int 0, .int 0] := ⟨R_Ce, F_Ce, t_Ce, rfl, u_Ce, t_Ce_ok, k_559, k_131, k_66, by decide⟩
theorem nw_P_183 : zNW "PointsToRounds" 183 7 7 [.null, .null, .null, .null, .int 0, .int 0, .null] := ⟨R_Ru, F_Ru, t_Ru, rfl, u_Ru, t_Ru_ok, k_590, k_591, k_75, by decide⟩
theorem nw_Ru_15 : zNW "PointsToRounds$Run" 15 9 3 [.int 0, .null, .int 0] := ⟨R_AL, F_AL, t_AL, rfl, u_AL, t_AL_ok, k_596, k_88, k_63, by decide⟩
theorem nw_Ru_22 : zNW "PointsToRounds$Run" 22 10 3 [.null, .int 0, .int 0] := ⟨R_AD, F_AD, t_AD, rfl, u_AD, t_AD_ok, k_598, k_599, k_76, by decide⟩
theorem nw_Ru_29 : zNW "PointsToRounds$Run" 29 5 3 [.int 0, .null, .null] := ⟨R_Th, F_Th, t_Th, rfl, u_Th, t_Th_ok, k_615, k_718, k_78, by decide⟩
theorem nw_Ru_43 : zNW "PointsToRounds$Run" 43 6 4 [.int 0, .int 0, .null, .null] := ⟨R_Fr, F_Fr, t_Fr, rfl, u_Fr, t_Fr_ok, k_648, k_649, k_77, by decide⟩
theorem nw_Fr_7 : zNW "PointsToRounds$Frame" 7 5 3 [.int 0, .null, .null] := ⟨R_Th, F_Th, t_Th, rfl, u_Th, t_Th_ok, k_654, k_718, k_78, by decide⟩
theorem nw_Ru_75 : zNW "PointsToRounds$Run" 75 4 8 [.int 0, .int 0, .int 0, .int 0, .int 0, .int 0, .int 0, .int 0] := ⟨R_St, F_St, t_St, rfl, u_St, t_St_ok, k_713, k_370, k_72, by decide⟩
theorem nw_Th_7 : zNW "PointsToRounds$Thing" 7 5 3 [.int 0, .null, .null] := ⟨R_Th, F_Th, t_Th, rfl, u_Th, t_Th_ok, k_723, k_718, k_78, by decide⟩
theorem nw_Ru_159 : zNW "PointsToRounds$Run" 159 3 3 [.int 0, .int 0, .int 0] := ⟨R_Ce, F_Ce, t_Ce, rfl, u_Ce, t_Ce_ok, k_781, k_131, k_66, by decide⟩
theorem nw_Law_10 : zNW "PointsToRoundsLaw" 10 8 44 [.int 0, .null, .int 0, .null, .int 0, .null, .null, .int 0, .null, .null, .null, .null, .null, .null, .null, .null, .int 0, .null, .int 0, .int 0, .null, .null, .null, .null, .null, .null, .null, .null, .null, .null, .null, .int 0, .int 0, .null, .null, .null, .null, .int 0, .null, .null, .null, .null, .null, .int 0] := ⟨R_M, F_M, t_M, rfl, u_M, t_M_ok, k_792, k_793, k_71, by decide⟩
abbrev x_add : MethodName := ⟨"java/util/List", "add", "(Ljava/lang/Object;)Z"⟩
theorem cf_add : zCF x_add y_AL_add0 := ⟨k_155, k_157, ⟨by decide, by decide⟩, rfl, fun _ _ _ h => h.2.2.1.1⟩
abbrev x_size : MethodName := ⟨"java/util/List", "size", "()I"⟩
theorem cf_size : zCF x_size y_AL_size := ⟨k_364, k_366, ⟨by decide, by decide⟩, rfl, fun _ _ _ h => h.2.2.1.2.1⟩
abbrev x_get : MethodName := ⟨"java/util/List", "get", "(I)Ljava/lang/Object;"⟩
theorem cf_get : zCF x_get y_AL_get := ⟨k_423, k_425, ⟨by decide, by decide⟩, rfl, fun _ _ _ h => h.2.2.1.2.2.1⟩
abbrev x_clear : MethodName := ⟨"java/util/List", "clear", "()V"⟩
theorem cf_clear : zCF x_clear y_AL_clear := ⟨k_451, k_453, ⟨by decide, by decide⟩, rfl, fun _ _ _ h => h.2.2.1.2.2.2⟩
