/-! the twin: enter, act -/
theorem tOpen_tsm {X : zSt} {m c t : Int32} : tsm [37, 38, 39, 40, 41] X (tOpen X m c t) := by
  unfold tOpen tOp1
  exact tsm_tr (tsm_tr (tsm_tr (tsm_tr (tsm_up (by decide)) (tsm_up (by decide))) (tsm_up (by decide))) (zit_tsm (fun k Y => tsm_up (by decide)) _ _)) (tsm_up (by decide))
def tEn2 (X : zSt) (i b : Nat) (q m c : Int32) : zSt := va_up (va_up (va_up (va_up (tOpen X m c (X 10 i)) 41 (upd ((tOpen X m c (X 10 i)) 41) (b + 6) q)) 41 (upd (upd ((tOpen X m c (X 10 i)) 41) (b + 6) q) (b + 7) (X 41 (b + ne X 13 i)))) 41 (upd (upd (upd ((tOpen X m c (X 10 i)) 41) (b + 6) q) (b + 7) (X 41 (b + ne X 13 i))) (b + 8) (X 41 (b + ne X 14 i)))) 43 (fun _ => X 43 0 + nI 1)
def tEn1 (X : zSt) (i b : Nat) (q m : Int32) : zSt := if m < 0 then X else if nI (cn X 37) = nI 10 then X else if X 18 0 = 0 then tEn2 X i b q m (nI 0) else tEn2 X i b q m (nI (1 + ne X 33 q.toNatClampNeg))
def tEnt (X : zSt) (i b : Nat) (q : Int32) : zSt := if q < 0 then X else tEn1 X i b q (fdf X (X 12 i) 9 (X 17 (ne X 33 q.toNatClampNeg)))
def aB (X : zSt) : Nat := 6 * (cn X 37 - 1)
def tAct (X : zSt) (i : Nat) : zSt := match ne X 9 i with
  | 0 => tMake X i (6 * (cn X 37 - 1) + ne X 10 i)
  | 1 => va_up X 41 (upd (X 41) (6 * (cn X 37 - 1) + ne X 10 i) (X 41 (6 * (cn X 37 - 1) + ne X 11 i)))
  | 2 => va_up X 41 (upd (X 41) (6 * (cn X 37 - 1) + ne X 10 i) (if cHv X (X 41 (6 * (cn X 37 - 1) + ne X 11 i)) (ne X 12 i) = true then X 34 (8 * (X 41 (6 * (cn X 37 - 1) + ne X 11 i)).toNatClampNeg + ne X 12 i) else X 41 (6 * (cn X 37 - 1) + ne X 10 i)))
  | 3 => if cHv X (X 41 (6 * (cn X 37 - 1) + ne X 10 i)) (ne X 12 i) = true then va_up X 34 (upd (X 34) (8 * (X 41 (6 * (cn X 37 - 1) + ne X 10 i)).toNatClampNeg + ne X 12 i) (X 41 (6 * (cn X 37 - 1) + ne X 11 i))) else X
  | 4 => va_up X 41 (upd (X 41) (6 * (cn X 37 - 1) + ne X 10 i) (if X 41 (6 * (cn X 37 - 1) + ne X 11 i) < 0 then X 41 (6 * (cn X 37 - 1) + ne X 11 i) else if und X 9 (X 17 (ne X 33 (X 41 (6 * (cn X 37 - 1) + ne X 11 i)).toNatClampNeg)) (X 12 i) = true then X 41 (6 * (cn X 37 - 1) + ne X 11 i) else X 41 (6 * (cn X 37 - 1) + ne X 10 i)))
  | 5 => va_up X 41 (upd (X 41) (6 * (cn X 37 - 1) + ne X 10 i) (X 36 (ne X 11 i)))
  | 6 => va_up X 36 (upd (X 36) (ne X 10 i) (X 41 (6 * (cn X 37 - 1) + ne X 11 i)))
  | 7 => tEnt X i (6 * (cn X 37 - 1)) (X 41 (6 * (cn X 37 - 1) + ne X 11 i))
  | 8 => va_up X 41 (upd (X 41) (6 * (cn X 37 - 1) + ne X 10 i) (if X 41 (6 * (cn X 37 - 1) + ne X 11 i) < 0 then X 41 (6 * (cn X 37 - 1) + ne X 10 i) else X 35 (X 41 (6 * (cn X 37 - 1) + ne X 11 i)).toNatClampNeg))
  | _ => if X 41 (6 * (cn X 37 - 1) + ne X 10 i) < 0 then X else va_up X 35 (upd (X 35) (X 41 (6 * (cn X 37 - 1) + ne X 10 i)).toNatClampNeg (X 41 (6 * (cn X 37 - 1) + ne X 11 i)))
theorem tAct_0 {X : zSt} {i : Nat} (h : ne X 9 i = 0) : tAct X i = tMake X i (6 * (cn X 37 - 1) + ne X 10 i) := by unfold tAct; rw [h]; rfl
theorem tAct_1 {X : zSt} {i : Nat} (h : ne X 9 i = 1) : tAct X i = va_up X 41 (upd (X 41) (6 * (cn X 37 - 1) + ne X 10 i) (X 41 (6 * (cn X 37 - 1) + ne X 11 i))) := by unfold tAct; rw [h]; rfl
theorem tAct_2 {X : zSt} {i : Nat} (h : ne X 9 i = 2) : tAct X i = va_up X 41 (upd (X 41) (6 * (cn X 37 - 1) + ne X 10 i) (if cHv X (X 41 (6 * (cn X 37 - 1) + ne X 11 i)) (ne X 12 i) = true then X 34 (8 * (X 41 (6 * (cn X 37 - 1) + ne X 11 i)).toNatClampNeg + ne X 12 i) else X 41 (6 * (cn X 37 - 1) + ne X 10 i))) := by unfold tAct; rw [h]; rfl
theorem tAct_3 {X : zSt} {i : Nat} (h : ne X 9 i = 3) : tAct X i = if cHv X (X 41 (6 * (cn X 37 - 1) + ne X 10 i)) (ne X 12 i) = true then va_up X 34 (upd (X 34) (8 * (X 41 (6 * (cn X 37 - 1) + ne X 10 i)).toNatClampNeg + ne X 12 i) (X 41 (6 * (cn X 37 - 1) + ne X 11 i))) else X := by unfold tAct; rw [h]; rfl
theorem tAct_4 {X : zSt} {i : Nat} (h : ne X 9 i = 4) : tAct X i = va_up X 41 (upd (X 41) (6 * (cn X 37 - 1) + ne X 10 i) (if X 41 (6 * (cn X 37 - 1) + ne X 11 i) < 0 then X 41 (6 * (cn X 37 - 1) + ne X 11 i) else if und X 9 (X 17 (ne X 33 (X 41 (6 * (cn X 37 - 1) + ne X 11 i)).toNatClampNeg)) (X 12 i) = true then X 41 (6 * (cn X 37 - 1) + ne X 11 i) else X 41 (6 * (cn X 37 - 1) + ne X 10 i))) := by unfold tAct; rw [h]; rfl
theorem tAct_5 {X : zSt} {i : Nat} (h : ne X 9 i = 5) : tAct X i = va_up X 41 (upd (X 41) (6 * (cn X 37 - 1) + ne X 10 i) (X 36 (ne X 11 i))) := by unfold tAct; rw [h]; rfl
theorem tAct_6 {X : zSt} {i : Nat} (h : ne X 9 i = 6) : tAct X i = va_up X 36 (upd (X 36) (ne X 10 i) (X 41 (6 * (cn X 37 - 1) + ne X 11 i))) := by unfold tAct; rw [h]; rfl
theorem tAct_7 {X : zSt} {i : Nat} (h : ne X 9 i = 7) : tAct X i = tEnt X i (6 * (cn X 37 - 1)) (X 41 (6 * (cn X 37 - 1) + ne X 11 i)) := by unfold tAct; rw [h]; rfl
theorem tAct_8 {X : zSt} {i : Nat} (h : ne X 9 i = 8) : tAct X i = va_up X 41 (upd (X 41) (6 * (cn X 37 - 1) + ne X 10 i) (if X 41 (6 * (cn X 37 - 1) + ne X 11 i) < 0 then X 41 (6 * (cn X 37 - 1) + ne X 10 i) else X 35 (X 41 (6 * (cn X 37 - 1) + ne X 11 i)).toNatClampNeg)) := by unfold tAct; rw [h]; rfl
theorem tAct_9 {X : zSt} {i : Nat} (h : ne X 9 i = 9) : tAct X i = if X 41 (6 * (cn X 37 - 1) + ne X 10 i) < 0 then X else va_up X 35 (upd (X 35) (X 41 (6 * (cn X 37 - 1) + ne X 10 i)).toNatClampNeg (X 41 (6 * (cn X 37 - 1) + ne X 11 i))) := by unfold tAct; rw [h]; rfl
abbrev rm_M_enter : Room := { frames := 2, cells := 0, slots := 0, locals := 47 }
set_option maxHeartbeats 4000000 in
set_option maxRecDepth 100000 in
theorem c_M_enter (l : Launch) (E : zE) {A : Nat → Nat} (hA : tmI A) (X : zSt) (hX : tInv X) (hR : rInv X) (i : Nat) (hi : i < cn X 7) (hk : ne X 9 i = 7) (b : Nat) (hb : b = 6 * (cn X 37 - 1)) (q : Int32) (hq : oR (cn X 32) q) : zM l E y_M_enter b_M_enter 7 (none) rm_M_enter [.ref (A 44), .int (nI i), .int (nI b), .int q] (tp E A X) (zPv (tp E A (tEnt X i b q))) := by
  refine zM_w (by decide +kernel) rfl rfl (fun sz => ?_)
  obtain ⟨⟨⟨h0, b0⟩, ⟨h2, b2⟩, ⟨h4, b4⟩, ⟨h7, b7⟩, ⟨h16, b16⟩⟩, h18, h19, hp, hf, hs, hst⟩ := id hX
  obtain ⟨⟨r37, r37a, r37b⟩, ⟨r32, r32b⟩, rfm, rfn, ros, roe, rof, rst⟩ := id hR
  obtain ⟨⟨s8, l8⟩, ⟨s9, l9⟩, ⟨s10, l10, l10a⟩, ⟨s11, l11, l11a, l11b⟩, s12, s13, s15⟩ := hst i hi
  obtain ⟨⟨s13, l13⟩, s14, l14⟩ := s13 hk
  rcases hq with rfl | ⟨oj, hoj, rfl⟩
  · refine z_iload_n d_M_enter_0 rfl ?_
    refine z_if_ge (tgt := 8) d_M_enter_1 (by decide) (fun q => absurd q zneg2) (fun _ => ?_)
    refine z_iconst (v := -1) d_M_enter_4 ic_m1 ?_
    refine z_goto (tgt := 29) d_M_enter_5 (by decide) ?_
    refine z_istore d_M_enter_29 (zlt rfl) ?_
    refine z_iload d_M_enter_31 rfl ?_
    refine z_if_lt (tgt := 45) d_M_enter_33 (by decide) (fun _ => ?_) (fun q => absurd zneg q)
    exact z_vret rfl d_M_enter_45 (zlq rfl) (zlq rfl) (⟨rfl, by unfold tEnt; rw [if_pos zneg]⟩)
  · have hro := (ros oj hoj).2
    refine z_iload_n d_M_enter_0 rfl ?_
    refine z_if_ge (tgt := 8) d_M_enter_1 (by decide) (fun _ => ?_) (fun q => absurd (nI_pos' (by omega)) q)
    refine z_aload_n d_M_enter_8 rfl ?_
    refine z_aload_n d_M_enter_9 rfl ?_
    refine z_get fa_M_46 d_M_enter_10 (tp_o hA) rfl ?_
    refine z_aload_n d_M_enter_13 rfl ?_
    refine z_get fa_M_82 d_M_enter_14 (tp_o hA) rfl ?_
    refine z_iload_n d_M_enter_17 rfl ?_
    refine z_iald (oj) d_M_enter_18 (tp_a hA 33 rfl) rfl (show oj < 30 from by omega) (by decide) ?_
    refine z_top (ros oj hoj).1 ?_
    refine z_iald (ne X 33 oj) d_M_enter_19 (tp_a hA 17 rfl) rfl (show ne X 33 oj < 20 from by omega) (by decide) ?_
    refine z_aload_n d_M_enter_20 rfl ?_
    refine z_get fa_M_34 d_M_enter_21 (tp_o hA) rfl ?_
    refine z_iload_n d_M_enter_24 rfl ?_
    refine z_iald (i) d_M_enter_25 (tp_a hA 12 rfl) rfl (show i < 60 from by omega) (by decide) ?_
    refine z_cVi (c_M_found l E hA _ hX (X 17 (ne X 33 oj)) (X 12 (i)) (Or.inr (hs _ (ros oj hoj).2))) cb_M_found ci_M_found ln_M_180 (tp_o hA) rfl rfl (zlq rfl) rfl (zlq rfl) (zlq rfl) d_M_enter_26 ?_
    refine z_istore d_M_enter_29 (zlt rfl) ?_
    refine z_iload d_M_enter_31 rfl ?_
    refine z_if_lt (tgt := 45) d_M_enter_33 (by decide) (fun c33 => ?_) (fun c33 => ?_)
    · exact z_vret rfl d_M_enter_45 (zlq rfl) (zlq rfl) (⟨rfl, by unfold tEnt; rw [if_neg (nI_pos (by omega)), nI_clamp (by omega)]; unfold tEn1; rw [if_pos c33]⟩)
    · refine z_aload_n d_M_enter_36 rfl ?_
      refine z_get fa_M_222 d_M_enter_37 (tp_o hA) rfl ?_
      refine z_top r37 ?_
      refine z_bipush d_M_enter_40 bp_10 ?_
      refine z_icmp_ne (tgt := 46) d_M_enter_42 (by decide) (fun c42 => ?_) (fun c42 => ?_)
      · have c42n := (not_congr (nI_eq (by omega) (by omega))).mp c42
        refine z_aload_n d_M_enter_46 rfl ?_
        refine z_get fa_M_103 d_M_enter_47 (tp_o hA) rfl ?_
        refine z_iload_n d_M_enter_50 rfl ?_
        refine z_aload_n d_M_enter_51 rfl ?_
        refine z_get fa_M_37 d_M_enter_52 (tp_o hA) rfl ?_
        refine z_iload_n d_M_enter_55 rfl ?_
        refine z_iald (i) d_M_enter_56 (tp_a hA 13 rfl) rfl (show i < 60 from by omega) (by decide) ?_
        refine z_top s13 ?_
        refine z_iadd d_M_enter_57 ?_
        refine z_top (nI_add (b) (ne X 13 i)) ?_
        refine z_iald (b + (ne X 13 i)) d_M_enter_58 (tp_a hA 41 rfl) rfl (show b + (ne X 13 i) < 60 from by omega) (by decide) ?_
        refine z_istore d_M_enter_59 (zlt rfl) ?_
        refine z_aload_n d_M_enter_61 rfl ?_
        refine z_get fa_M_103 d_M_enter_62 (tp_o hA) rfl ?_
        refine z_iload_n d_M_enter_65 rfl ?_
        refine z_aload_n d_M_enter_66 rfl ?_
        refine z_get fa_M_40 d_M_enter_67 (tp_o hA) rfl ?_
        refine z_iload_n d_M_enter_70 rfl ?_
        refine z_iald (i) d_M_enter_71 (tp_a hA 14 rfl) rfl (show i < 60 from by omega) (by decide) ?_
        refine z_top s14 ?_
        refine z_iadd d_M_enter_72 ?_
        refine z_top (nI_add (b) (ne X 14 i)) ?_
        refine z_iald (b + (ne X 14 i)) d_M_enter_73 (tp_a hA 41 rfl) rfl (show b + (ne X 14 i) < 60 from by omega) (by decide) ?_
        refine z_istore d_M_enter_74 (zlt rfl) ?_
        refine z_aload_n d_M_enter_76 rfl ?_
        refine z_iload d_M_enter_77 rfl ?_
        refine z_aload_n d_M_enter_79 rfl ?_
        refine z_get fa_M_163 d_M_enter_80 (tp_o hA) rfl ?_
        refine z_if_ne (tgt := 90) d_M_enter_83 (by decide) (fun c83 => ?_) (fun c83 => ?_)
        · refine z_iconst d_M_enter_90 ic_1 ?_
          refine z_aload_n d_M_enter_91 rfl ?_
          refine z_get fa_M_82 d_M_enter_92 (tp_o hA) rfl ?_
          refine z_iload_n d_M_enter_95 rfl ?_
          refine z_iald (oj) d_M_enter_96 (tp_a hA 33 rfl) rfl (show oj < 30 from by omega) (by decide) ?_
          refine z_top (ros oj hoj).1 ?_
          refine z_iadd d_M_enter_97 ?_
          refine z_top (nI_add (1) (ne X 33 oj)) ?_
          refine z_aload_n d_M_enter_98 rfl ?_
          refine z_get fa_M_28 d_M_enter_99 (tp_o hA) rfl ?_
          refine z_iload_n d_M_enter_102 rfl ?_
          refine z_iald (i) d_M_enter_103 (tp_a hA 10 rfl) rfl (show i < 60 from by omega) (by decide) ?_
          refine z_cVv (c_M_open l E hA X r37 (by omega) _ _ _) cb_M_open ci_M_open ln_M_228 (tp_o hA) rfl rfl (zlq rfl) rfl (zlq rfl) (zlq rfl) d_M_enter_104 ?_
          have hO : tsm [37, 38, 39, 40, 41] X (tOpen X (fdf X (X 12 (i)) 9 (X 17 (ne X 33 oj))) (nI (1 + (ne X 33 oj))) (X 10 (i))) := tOpen_tsm
          refine z_aload_n d_M_enter_107 rfl ?_
          refine z_get fa_M_103 d_M_enter_108 (tp_o hA) rfl ?_
          refine z_iload_n d_M_enter_111 rfl ?_
          refine z_bipush d_M_enter_112 bp_6 ?_
          refine z_iadd d_M_enter_114 ?_
          refine z_top (nI_add (b) (6)) ?_
          refine z_iload_n d_M_enter_115 rfl ?_
          refine t_ast (kf := 41) (j := b + 6) d_M_enter_116 hA rfl rfl (show b + 6 < 60 from by omega) (by decide) ?_
          refine z_aload_n d_M_enter_117 rfl ?_
          refine z_get fa_M_103 d_M_enter_118 (tp_o hA) rfl ?_
          refine z_iload_n d_M_enter_121 rfl ?_
          refine z_bipush d_M_enter_122 bp_7 ?_
          refine z_iadd d_M_enter_124 ?_
          refine z_top (nI_add (b) (7)) ?_
          refine z_iload d_M_enter_125 rfl ?_
          refine t_ast (kf := 41) (j := b + 7) d_M_enter_127 hA rfl rfl (show b + 7 < 60 from by omega) (by decide) ?_
          refine z_aload_n d_M_enter_128 rfl ?_
          refine z_get fa_M_103 d_M_enter_129 (tp_o hA) rfl ?_
          refine z_iload_n d_M_enter_132 rfl ?_
          refine z_bipush d_M_enter_133 bp_8 ?_
          refine z_iadd d_M_enter_135 ?_
          refine z_top (nI_add (b) (8)) ?_
          refine z_iload d_M_enter_136 rfl ?_
          refine t_ast (kf := 41) (j := b + 8) d_M_enter_138 hA rfl rfl (show b + 8 < 60 from by omega) (by decide) ?_
          refine z_aload_n d_M_enter_139 rfl ?_
          refine z_dup d_M_enter_140 rfl ?_
          refine z_get fa_M_225 d_M_enter_141 (tp_o hA) rfl ?_
          refine z_top (congrFun (hO 43 (by decide)) 0) ?_
          refine z_iconst d_M_enter_144 ic_1 ?_
          refine z_iadd d_M_enter_145 ?_
          refine t_put fp_M_225 d_M_enter_146 hA (by decide) rfl ?_
          exact z_vret rfl d_M_enter_149 (zlq rfl) (zlq rfl) (⟨rfl, by unfold tEnt; rw [if_neg (nI_pos (by omega)), nI_clamp (by omega)]; unfold tEn1; rw [if_neg c33, if_neg c42, if_neg c83]; (try rw [nI_clamp (show oj < 2 ^ 31 by omega)]); rfl⟩)
        · refine z_iconst d_M_enter_86 ic_0 ?_
          refine z_goto (tgt := 98) d_M_enter_87 (by decide) ?_
          refine z_aload_n d_M_enter_98 rfl ?_
          refine z_get fa_M_28 d_M_enter_99 (tp_o hA) rfl ?_
          refine z_iload_n d_M_enter_102 rfl ?_
          refine z_iald (i) d_M_enter_103 (tp_a hA 10 rfl) rfl (show i < 60 from by omega) (by decide) ?_
          refine z_cVv (c_M_open l E hA X r37 (by omega) _ _ _) cb_M_open ci_M_open ln_M_228 (tp_o hA) rfl rfl (zlq rfl) rfl (zlq rfl) (zlq rfl) d_M_enter_104 ?_
          have hO : tsm [37, 38, 39, 40, 41] X (tOpen X (fdf X (X 12 (i)) 9 (X 17 (ne X 33 oj))) (nI 0) (X 10 (i))) := tOpen_tsm
          refine z_aload_n d_M_enter_107 rfl ?_
          refine z_get fa_M_103 d_M_enter_108 (tp_o hA) rfl ?_
          refine z_iload_n d_M_enter_111 rfl ?_
          refine z_bipush d_M_enter_112 bp_6 ?_
          refine z_iadd d_M_enter_114 ?_
          refine z_top (nI_add (b) (6)) ?_
          refine z_iload_n d_M_enter_115 rfl ?_
          refine t_ast (kf := 41) (j := b + 6) d_M_enter_116 hA rfl rfl (show b + 6 < 60 from by omega) (by decide) ?_
          refine z_aload_n d_M_enter_117 rfl ?_
          refine z_get fa_M_103 d_M_enter_118 (tp_o hA) rfl ?_
          refine z_iload_n d_M_enter_121 rfl ?_
          refine z_bipush d_M_enter_122 bp_7 ?_
          refine z_iadd d_M_enter_124 ?_
          refine z_top (nI_add (b) (7)) ?_
          refine z_iload d_M_enter_125 rfl ?_
          refine t_ast (kf := 41) (j := b + 7) d_M_enter_127 hA rfl rfl (show b + 7 < 60 from by omega) (by decide) ?_
          refine z_aload_n d_M_enter_128 rfl ?_
          refine z_get fa_M_103 d_M_enter_129 (tp_o hA) rfl ?_
          refine z_iload_n d_M_enter_132 rfl ?_
          refine z_bipush d_M_enter_133 bp_8 ?_
          refine z_iadd d_M_enter_135 ?_
          refine z_top (nI_add (b) (8)) ?_
          refine z_iload d_M_enter_136 rfl ?_
          refine t_ast (kf := 41) (j := b + 8) d_M_enter_138 hA rfl rfl (show b + 8 < 60 from by omega) (by decide) ?_
          refine z_aload_n d_M_enter_139 rfl ?_
          refine z_dup d_M_enter_140 rfl ?_
          refine z_get fa_M_225 d_M_enter_141 (tp_o hA) rfl ?_
          refine z_top (congrFun (hO 43 (by decide)) 0) ?_
          refine z_iconst d_M_enter_144 ic_1 ?_
          refine z_iadd d_M_enter_145 ?_
          refine t_put fp_M_225 d_M_enter_146 hA (by decide) rfl ?_
          exact z_vret rfl d_M_enter_149 (zlq rfl) (zlq rfl) (⟨rfl, by unfold tEnt; rw [if_neg (nI_pos (by omega)), nI_clamp (by omega)]; unfold tEn1; rw [if_neg c33, if_neg c42, if_pos c83]; (try rw [nI_clamp (show oj < 2 ^ 31 by omega)]); rfl⟩)
      · have c42n := (nI_eq (by omega) (by omega)).mp c42
        exact z_vret rfl d_M_enter_45 (zlq rfl) (zlq rfl) (⟨rfl, by unfold tEnt; rw [if_neg (nI_pos (by omega)), nI_clamp (by omega)]; unfold tEn1; rw [if_neg c33, if_pos c42]⟩)
theorem c_M_canHaveN (l : Launch) (E : zE) {A : Nat → Nat} (hA : tmI A) (X : zSt) (hX : tInv X) (hR : rInv X) (f : Nat) (hf0 : f < cn X 2) : zM l E y_M_canHave b_M_canHave 3 (some .boolean) rm_M_canHave [.ref (A 44), .int (-1), .int (nI f)] (tp E A X) (zPi (bI false) (tp E A X)) := by
  have h := c_M_canHave l E hA X hX hR (-1) (Or.inl rfl) f hf0
  rw [show cHv X (-1) f = false from by unfold cHv; rw [if_pos zneg]] at h
  exact h
abbrev rm_M_act : Room := { frames := 3, cells := 0, slots := 0, locals := 73 }
set_option maxHeartbeats 4000000 in
set_option maxRecDepth 100000 in
theorem c_M_act (l : Launch) (E : zE) {A : Nat → Nat} (hA : tmI A) (X : zSt) (hX : tInv X) (hR : rInv X) (i : Nat) (hi : i < cn X 7) : zM l E y_M_act b_M_act 6 (none) rm_M_act [.ref (A 44), .int (nI i)] (tp E A X) (zPv (tp E A (tAct X i))) := by
  refine zM_w (by decide +kernel) rfl rfl (fun sz => ?_)
  obtain ⟨⟨⟨h0, b0⟩, ⟨h2, b2⟩, ⟨h4, b4⟩, ⟨h7, b7⟩, ⟨h16, b16⟩⟩, h18, h19, hp, hf, hs, hst⟩ := id hX
  obtain ⟨⟨r37, r37a, r37b⟩, ⟨r32, r32b⟩, rfm, rfn, ros, roe, rof, rst⟩ := id hR
  obtain ⟨⟨s8, l8⟩, ⟨s9, l9⟩, ⟨s10, l10, l10a⟩, ⟨s11, l11, l11a, l11b⟩, s12, s13, s15⟩ := hst i hi
  rcases (show ne X 9 i = 0 ∨ ne X 9 i = 1 ∨ ne X 9 i = 2 ∨ ne X 9 i = 3 ∨ ne X 9 i = 4 ∨ ne X 9 i = 5 ∨ ne X 9 i = 6 ∨ ne X 9 i = 7 ∨ ne X 9 i = 8 ∨ ne X 9 i = 9 by omega) with e | e | e | e | e | e | e | e | e | e
  · refine z_bipush d_M_act_0 bp_6 ?_
    refine z_aload_n d_M_act_2 rfl ?_
    refine z_get fa_M_222 d_M_act_3 (tp_o hA) rfl ?_
    refine z_top r37 ?_
    refine z_iconst d_M_act_6 ic_1 ?_
    refine z_isub d_M_act_7 ?_
    refine z_top (pk_sub (a := cn X 37) (b := 1) (by omega)) ?_
    refine z_imul d_M_act_8 ?_
    refine z_top (pk_mul (6) (cn X 37 - 1)) ?_
    refine z_istore_n d_M_act_9 (zlt rfl) ?_
    refine z_iload_n d_M_act_10 rfl ?_
    refine z_aload_n d_M_act_11 rfl ?_
    refine z_get fa_M_28 d_M_act_12 (tp_o hA) rfl ?_
    refine z_iload_n d_M_act_15 rfl ?_
    refine z_iald (i) d_M_act_16 (tp_a hA 10 rfl) rfl (show i < 60 from by omega) (by decide) ?_
    refine z_top s10 ?_
    refine z_iadd d_M_act_17 ?_
    refine z_top (nI_add (6 * (cn X 37 - 1)) (ne X 10 i)) ?_
    refine z_istore_n d_M_act_18 (zlt rfl) ?_
    refine z_aload_n d_M_act_19 rfl ?_
    refine z_get fa_M_25 d_M_act_20 (tp_o hA) rfl ?_
    refine z_iload_n d_M_act_23 rfl ?_
    refine z_iald (i) d_M_act_24 (tp_a hA 9 rfl) rfl (show i < 60 from by omega) (by decide) ?_
    refine z_top (s9.trans (by rw [e])) ?_
    refine z_bipush d_M_act_25 bp_6 ?_
    refine z_icmp_ne (tgt := 34) d_M_act_27 (by decide) (fun c27 => ?_) (fun c27 => absurd c27 (by decide +kernel))
    refine z_aload_n d_M_act_34 rfl ?_
    refine z_get fa_M_103 d_M_act_35 (tp_o hA) rfl ?_
    refine z_iload_n d_M_act_38 rfl ?_
    refine z_iald (6 * (cn X 37 - 1) + (ne X 10 i)) d_M_act_39 (tp_a hA 41 rfl) rfl (show 6 * (cn X 37 - 1) + (ne X 10 i) < 60 from by omega) (by decide) ?_
    refine z_istore d_M_act_40 (zlt rfl) ?_
    refine z_aload_n d_M_act_42 rfl ?_
    refine z_get fa_M_25 d_M_act_43 (tp_o hA) rfl ?_
    refine z_iload_n d_M_act_46 rfl ?_
    refine z_iald (i) d_M_act_47 (tp_a hA 9 rfl) rfl (show i < 60 from by omega) (by decide) ?_
    refine z_top (s9.trans (by rw [e])) ?_
    refine z_if_eq (tgt := 61) d_M_act_48 (by decide) (fun c48 => ?_) (fun c48 => absurd (by decide +kernel) c48)
    refine z_iconst (v := -1) d_M_act_61 ic_m1 ?_
    refine z_goto (tgt := 78) d_M_act_62 (by decide) ?_
    refine z_istore d_M_act_78 (zlt rfl) ?_
    refine z_aload_n d_M_act_80 rfl ?_
    refine z_get fa_M_25 d_M_act_81 (tp_o hA) rfl ?_
    refine z_iload_n d_M_act_84 rfl ?_
    refine z_iald (i) d_M_act_85 (tp_a hA 9 rfl) rfl (show i < 60 from by omega) (by decide) ?_
    refine z_top (s9.trans (by rw [e])) ?_
    refine z_tabIn (tgt := 136) d_M_act_86 (by decide +kernel) (by decide +kernel) (show _ = some 50 by decide +kernel) (by decide) ?_
    refine z_aload_n d_M_act_136 rfl ?_
    refine z_iload_n d_M_act_137 rfl ?_
    refine z_iload_n d_M_act_138 rfl ?_
    refine z_cVv (c_M_make l E hA X hR i _ (by omega) (show _ < 60 by omega)) cb_M_make ci_M_make ln_M_232 (tp_o hA) rfl rfl (zlq rfl) rfl (zlq rfl) (zlq rfl) d_M_act_139 ?_
    refine z_goto (tgt := 372) d_M_act_142 (by decide) ?_
    exact z_vret rfl d_M_act_372 (zlq rfl) (zlq rfl) (⟨rfl, by rw [tAct_0 e]; (try rfl)⟩)
  · have q6 := l11b (by omega) (by omega)
    refine z_bipush d_M_act_0 bp_6 ?_
    refine z_aload_n d_M_act_2 rfl ?_
    refine z_get fa_M_222 d_M_act_3 (tp_o hA) rfl ?_
    refine z_top r37 ?_
    refine z_iconst d_M_act_6 ic_1 ?_
    refine z_isub d_M_act_7 ?_
    refine z_top (pk_sub (a := cn X 37) (b := 1) (by omega)) ?_
    refine z_imul d_M_act_8 ?_
    refine z_top (pk_mul (6) (cn X 37 - 1)) ?_
    refine z_istore_n d_M_act_9 (zlt rfl) ?_
    refine z_iload_n d_M_act_10 rfl ?_
    refine z_aload_n d_M_act_11 rfl ?_
    refine z_get fa_M_28 d_M_act_12 (tp_o hA) rfl ?_
    refine z_iload_n d_M_act_15 rfl ?_
    refine z_iald (i) d_M_act_16 (tp_a hA 10 rfl) rfl (show i < 60 from by omega) (by decide) ?_
    refine z_top s10 ?_
    refine z_iadd d_M_act_17 ?_
    refine z_top (nI_add (6 * (cn X 37 - 1)) (ne X 10 i)) ?_
    refine z_istore_n d_M_act_18 (zlt rfl) ?_
    refine z_aload_n d_M_act_19 rfl ?_
    refine z_get fa_M_25 d_M_act_20 (tp_o hA) rfl ?_
    refine z_iload_n d_M_act_23 rfl ?_
    refine z_iald (i) d_M_act_24 (tp_a hA 9 rfl) rfl (show i < 60 from by omega) (by decide) ?_
    refine z_top (s9.trans (by rw [e])) ?_
    refine z_bipush d_M_act_25 bp_6 ?_
    refine z_icmp_ne (tgt := 34) d_M_act_27 (by decide) (fun c27 => ?_) (fun c27 => absurd c27 (by decide +kernel))
    refine z_aload_n d_M_act_34 rfl ?_
    refine z_get fa_M_103 d_M_act_35 (tp_o hA) rfl ?_
    refine z_iload_n d_M_act_38 rfl ?_
    refine z_iald (6 * (cn X 37 - 1) + (ne X 10 i)) d_M_act_39 (tp_a hA 41 rfl) rfl (show 6 * (cn X 37 - 1) + (ne X 10 i) < 60 from by omega) (by decide) ?_
    refine z_istore d_M_act_40 (zlt rfl) ?_
    refine z_aload_n d_M_act_42 rfl ?_
    refine z_get fa_M_25 d_M_act_43 (tp_o hA) rfl ?_
    refine z_iload_n d_M_act_46 rfl ?_
    refine z_iald (i) d_M_act_47 (tp_a hA 9 rfl) rfl (show i < 60 from by omega) (by decide) ?_
    refine z_top (s9.trans (by rw [e])) ?_
    refine z_if_eq (tgt := 61) d_M_act_48 (by decide) (fun c48 => absurd c48 (by decide +kernel)) (fun c48 => ?_)
    refine z_aload_n d_M_act_51 rfl ?_
    refine z_get fa_M_25 d_M_act_52 (tp_o hA) rfl ?_
    refine z_iload_n d_M_act_55 rfl ?_
    refine z_iald (i) d_M_act_56 (tp_a hA 9 rfl) rfl (show i < 60 from by omega) (by decide) ?_
    refine z_top (s9.trans (by rw [e])) ?_
    refine z_iconst d_M_act_57 ic_5 ?_
    refine z_icmp_ne (tgt := 65) d_M_act_58 (by decide) (fun c58 => ?_) (fun c58 => absurd c58 (by decide +kernel))
    refine z_aload_n d_M_act_65 rfl ?_
    refine z_get fa_M_103 d_M_act_66 (tp_o hA) rfl ?_
    refine z_iload_n d_M_act_69 rfl ?_
    refine z_aload_n d_M_act_70 rfl ?_
    refine z_get fa_M_31 d_M_act_71 (tp_o hA) rfl ?_
    refine z_iload_n d_M_act_74 rfl ?_
    refine z_iald (i) d_M_act_75 (tp_a hA 11 rfl) rfl (show i < 60 from by omega) (by decide) ?_
    refine z_top s11 ?_
    refine z_iadd d_M_act_76 ?_
    refine z_top (nI_add (6 * (cn X 37 - 1)) (ne X 11 i)) ?_
    refine z_iald (6 * (cn X 37 - 1) + (ne X 11 i)) d_M_act_77 (tp_a hA 41 rfl) rfl (show 6 * (cn X 37 - 1) + (ne X 11 i) < 60 from by omega) (by decide) ?_
    refine z_istore d_M_act_78 (zlt rfl) ?_
    refine z_aload_n d_M_act_80 rfl ?_
    refine z_get fa_M_25 d_M_act_81 (tp_o hA) rfl ?_
    refine z_iload_n d_M_act_84 rfl ?_
    refine z_iald (i) d_M_act_85 (tp_a hA 9 rfl) rfl (show i < 60 from by omega) (by decide) ?_
    refine z_top (s9.trans (by rw [e])) ?_
    refine z_tabIn (tgt := 145) d_M_act_86 (by decide +kernel) (by decide +kernel) (show _ = some 59 by decide +kernel) (by decide) ?_
    refine z_aload_n d_M_act_145 rfl ?_
    refine z_get fa_M_103 d_M_act_146 (tp_o hA) rfl ?_
    refine z_iload_n d_M_act_149 rfl ?_
    refine z_iload d_M_act_150 rfl ?_
    refine t_ast (kf := 41) (j := 6 * (cn X 37 - 1) + (ne X 10 i)) d_M_act_152 hA rfl rfl (show 6 * (cn X 37 - 1) + (ne X 10 i) < 60 from by omega) (by decide) ?_
    refine z_goto (tgt := 372) d_M_act_153 (by decide) ?_
    exact z_vret rfl d_M_act_372 (zlq rfl) (zlq rfl) (⟨rfl, by rw [tAct_1 e]; (try rfl)⟩)
  · have r12 := s12 (by omega)
    have r12b := r12.2
    have q6 := l11b (by omega) (by omega)
    refine z_bipush d_M_act_0 bp_6 ?_
    refine z_aload_n d_M_act_2 rfl ?_
    refine z_get fa_M_222 d_M_act_3 (tp_o hA) rfl ?_
    refine z_top r37 ?_
    refine z_iconst d_M_act_6 ic_1 ?_
    refine z_isub d_M_act_7 ?_
    refine z_top (pk_sub (a := cn X 37) (b := 1) (by omega)) ?_
    refine z_imul d_M_act_8 ?_
    refine z_top (pk_mul (6) (cn X 37 - 1)) ?_
    refine z_istore_n d_M_act_9 (zlt rfl) ?_
    refine z_iload_n d_M_act_10 rfl ?_
    refine z_aload_n d_M_act_11 rfl ?_
    refine z_get fa_M_28 d_M_act_12 (tp_o hA) rfl ?_
    refine z_iload_n d_M_act_15 rfl ?_
    refine z_iald (i) d_M_act_16 (tp_a hA 10 rfl) rfl (show i < 60 from by omega) (by decide) ?_
    refine z_top s10 ?_
    refine z_iadd d_M_act_17 ?_
    refine z_top (nI_add (6 * (cn X 37 - 1)) (ne X 10 i)) ?_
    refine z_istore_n d_M_act_18 (zlt rfl) ?_
    refine z_aload_n d_M_act_19 rfl ?_
    refine z_get fa_M_25 d_M_act_20 (tp_o hA) rfl ?_
    refine z_iload_n d_M_act_23 rfl ?_
    refine z_iald (i) d_M_act_24 (tp_a hA 9 rfl) rfl (show i < 60 from by omega) (by decide) ?_
    refine z_top (s9.trans (by rw [e])) ?_
    refine z_bipush d_M_act_25 bp_6 ?_
    refine z_icmp_ne (tgt := 34) d_M_act_27 (by decide) (fun c27 => ?_) (fun c27 => absurd c27 (by decide +kernel))
    refine z_aload_n d_M_act_34 rfl ?_
    refine z_get fa_M_103 d_M_act_35 (tp_o hA) rfl ?_
    refine z_iload_n d_M_act_38 rfl ?_
    refine z_iald (6 * (cn X 37 - 1) + (ne X 10 i)) d_M_act_39 (tp_a hA 41 rfl) rfl (show 6 * (cn X 37 - 1) + (ne X 10 i) < 60 from by omega) (by decide) ?_
    refine z_istore d_M_act_40 (zlt rfl) ?_
    refine z_aload_n d_M_act_42 rfl ?_
    refine z_get fa_M_25 d_M_act_43 (tp_o hA) rfl ?_
    refine z_iload_n d_M_act_46 rfl ?_
    refine z_iald (i) d_M_act_47 (tp_a hA 9 rfl) rfl (show i < 60 from by omega) (by decide) ?_
    refine z_top (s9.trans (by rw [e])) ?_
    refine z_if_eq (tgt := 61) d_M_act_48 (by decide) (fun c48 => absurd c48 (by decide +kernel)) (fun c48 => ?_)
    refine z_aload_n d_M_act_51 rfl ?_
    refine z_get fa_M_25 d_M_act_52 (tp_o hA) rfl ?_
    refine z_iload_n d_M_act_55 rfl ?_
    refine z_iald (i) d_M_act_56 (tp_a hA 9 rfl) rfl (show i < 60 from by omega) (by decide) ?_
    refine z_top (s9.trans (by rw [e])) ?_
    refine z_iconst d_M_act_57 ic_5 ?_
    refine z_icmp_ne (tgt := 65) d_M_act_58 (by decide) (fun c58 => ?_) (fun c58 => absurd c58 (by decide +kernel))
    refine z_aload_n d_M_act_65 rfl ?_
    refine z_get fa_M_103 d_M_act_66 (tp_o hA) rfl ?_
    refine z_iload_n d_M_act_69 rfl ?_
    refine z_aload_n d_M_act_70 rfl ?_
    refine z_get fa_M_31 d_M_act_71 (tp_o hA) rfl ?_
    refine z_iload_n d_M_act_74 rfl ?_
    refine z_iald (i) d_M_act_75 (tp_a hA 11 rfl) rfl (show i < 60 from by omega) (by decide) ?_
    refine z_top s11 ?_
    refine z_iadd d_M_act_76 ?_
    refine z_top (nI_add (6 * (cn X 37 - 1)) (ne X 11 i)) ?_
    refine z_iald (6 * (cn X 37 - 1) + (ne X 11 i)) d_M_act_77 (tp_a hA 41 rfl) rfl (show 6 * (cn X 37 - 1) + (ne X 11 i) < 60 from by omega) (by decide) ?_
    refine z_istore d_M_act_78 (zlt rfl) ?_
    refine z_aload_n d_M_act_80 rfl ?_
    refine z_get fa_M_25 d_M_act_81 (tp_o hA) rfl ?_
    refine z_iload_n d_M_act_84 rfl ?_
    refine z_iald (i) d_M_act_85 (tp_a hA 9 rfl) rfl (show i < 60 from by omega) (by decide) ?_
    refine z_top (s9.trans (by rw [e])) ?_
    rcases rfn (cn X 37 - 1) (by omega) (ne X 11 i) (by omega) with eq | ⟨oj, hoj, eq⟩
    · rw [eq]
      refine z_tabIn (tgt := 156) d_M_act_86 (by decide +kernel) (by decide +kernel) (show _ = some 70 by decide +kernel) (by decide) ?_
      refine z_aload_n d_M_act_156 rfl ?_
      refine z_get fa_M_103 d_M_act_157 (tp_o hA) rfl ?_
      refine z_iload_n d_M_act_160 rfl ?_
      refine z_aload_n d_M_act_161 rfl ?_
      refine z_iload d_M_act_162 rfl ?_
      refine z_aload_n d_M_act_164 rfl ?_
      refine z_get fa_M_34 d_M_act_165 (tp_o hA) rfl ?_
      refine z_iload_n d_M_act_168 rfl ?_
      refine z_iald (i) d_M_act_169 (tp_a hA 12 rfl) rfl (show i < 60 from by omega) (by decide) ?_
      refine z_top r12.1 ?_
      refine z_cVi (c_M_canHaveN l E hA X hX hR _ r12.2) cb_M_canHave ci_M_canHave ln_M_235 (tp_o hA) rfl rfl (zlq rfl) rfl (zlq rfl) (zlq rfl) d_M_act_170 ?_
      refine z_if_eq (tgt := 196) d_M_act_173 (by decide) (fun _ => ?_) (fun q => absurd rfl q)
      refine z_iload d_M_act_196 rfl ?_
      refine t_ast (kf := 41) (j := 6 * (cn X 37 - 1) + (ne X 10 i)) d_M_act_198 hA rfl rfl (show 6 * (cn X 37 - 1) + (ne X 10 i) < 60 from by omega) (by decide) ?_
      refine z_goto (tgt := 372) d_M_act_199 (by decide) ?_
      exact z_vret rfl d_M_act_372 (zlq rfl) (zlq rfl) (⟨rfl, by rw [tAct_2 e, eq, show cHv X (-1) (ne X 12 i) = false from by unfold cHv; rw [if_pos zneg]]; rfl⟩)
    · have hro := (ros oj hoj).2
      rw [eq]
      refine z_tabIn (tgt := 156) d_M_act_86 (by decide +kernel) (by decide +kernel) (show _ = some 70 by decide +kernel) (by decide) ?_
      refine z_aload_n d_M_act_156 rfl ?_
      refine z_get fa_M_103 d_M_act_157 (tp_o hA) rfl ?_
      refine z_iload_n d_M_act_160 rfl ?_
      refine z_aload_n d_M_act_161 rfl ?_
      refine z_iload d_M_act_162 rfl ?_
      refine z_aload_n d_M_act_164 rfl ?_
      refine z_get fa_M_34 d_M_act_165 (tp_o hA) rfl ?_
      refine z_iload_n d_M_act_168 rfl ?_
      refine z_iald (i) d_M_act_169 (tp_a hA 12 rfl) rfl (show i < 60 from by omega) (by decide) ?_
      refine z_top r12.1 ?_
      refine z_cVi (c_M_canHave l E hA X hX hR _ (Or.inr ⟨oj, hoj, rfl⟩) _ r12.2) cb_M_canHave ci_M_canHave ln_M_235 (tp_o hA) rfl rfl (zlq rfl) rfl (zlq rfl) (zlq rfl) d_M_act_170 ?_
      refine z_if_eq (tgt := 196) d_M_act_173 (by decide) (fun c173 => ?_) (fun c173 => ?_)
      · have c173n := bI_e.mp c173
        refine z_iload d_M_act_196 rfl ?_
        refine t_ast (kf := 41) (j := 6 * (cn X 37 - 1) + (ne X 10 i)) d_M_act_198 hA rfl rfl (show 6 * (cn X 37 - 1) + (ne X 10 i) < 60 from by omega) (by decide) ?_
        refine z_goto (tgt := 372) d_M_act_199 (by decide) ?_
        exact z_vret rfl d_M_act_372 (zlq rfl) (zlq rfl) (⟨rfl, by rw [tAct_2 e, eq, if_neg (zbf c173n)]; (try rw [nI_clamp (show oj < 2 ^ 31 by omega)]); (try rfl)⟩)
      · have c173n := bI_n.mp c173
        refine z_aload_n d_M_act_176 rfl ?_
        refine z_get fa_M_85 d_M_act_177 (tp_o hA) rfl ?_
        refine z_bipush d_M_act_180 bp_8 ?_
        refine z_iload d_M_act_182 rfl ?_
        refine z_imul d_M_act_184 ?_
        refine z_top (pk_mul (8) (oj)) ?_
        refine z_aload_n d_M_act_185 rfl ?_
        refine z_get fa_M_34 d_M_act_186 (tp_o hA) rfl ?_
        refine z_iload_n d_M_act_189 rfl ?_
        refine z_iald (i) d_M_act_190 (tp_a hA 12 rfl) rfl (show i < 60 from by omega) (by decide) ?_
        refine z_top r12.1 ?_
        refine z_iadd d_M_act_191 ?_
        refine z_top (nI_add (8 * oj) (ne X 12 i)) ?_
        refine z_iald (8 * oj + (ne X 12 i)) d_M_act_192 (tp_a hA 34 rfl) rfl (show 8 * oj + (ne X 12 i) < 240 from by omega) (by decide) ?_
        refine z_goto (tgt := 198) d_M_act_193 (by decide) ?_
        refine t_ast (kf := 41) (j := 6 * (cn X 37 - 1) + (ne X 10 i)) d_M_act_198 hA rfl rfl (show 6 * (cn X 37 - 1) + (ne X 10 i) < 60 from by omega) (by decide) ?_
        refine z_goto (tgt := 372) d_M_act_199 (by decide) ?_
        exact z_vret rfl d_M_act_372 (zlq rfl) (zlq rfl) (⟨rfl, by rw [tAct_2 e, eq, if_pos c173n]; (try rw [nI_clamp (show oj < 2 ^ 31 by omega)]); (try rfl)⟩)
  · have r12 := s12 (by omega)
    have r12b := r12.2
    have q6 := l11b (by omega) (by omega)
    refine z_bipush d_M_act_0 bp_6 ?_
    refine z_aload_n d_M_act_2 rfl ?_
    refine z_get fa_M_222 d_M_act_3 (tp_o hA) rfl ?_
    refine z_top r37 ?_
    refine z_iconst d_M_act_6 ic_1 ?_
    refine z_isub d_M_act_7 ?_
    refine z_top (pk_sub (a := cn X 37) (b := 1) (by omega)) ?_
    refine z_imul d_M_act_8 ?_
    refine z_top (pk_mul (6) (cn X 37 - 1)) ?_
    refine z_istore_n d_M_act_9 (zlt rfl) ?_
    refine z_iload_n d_M_act_10 rfl ?_
    refine z_aload_n d_M_act_11 rfl ?_
    refine z_get fa_M_28 d_M_act_12 (tp_o hA) rfl ?_
    refine z_iload_n d_M_act_15 rfl ?_
    refine z_iald (i) d_M_act_16 (tp_a hA 10 rfl) rfl (show i < 60 from by omega) (by decide) ?_
    refine z_top s10 ?_
    refine z_iadd d_M_act_17 ?_
    refine z_top (nI_add (6 * (cn X 37 - 1)) (ne X 10 i)) ?_
    refine z_istore_n d_M_act_18 (zlt rfl) ?_
    refine z_aload_n d_M_act_19 rfl ?_
    refine z_get fa_M_25 d_M_act_20 (tp_o hA) rfl ?_
    refine z_iload_n d_M_act_23 rfl ?_
    refine z_iald (i) d_M_act_24 (tp_a hA 9 rfl) rfl (show i < 60 from by omega) (by decide) ?_
    refine z_top (s9.trans (by rw [e])) ?_
    refine z_bipush d_M_act_25 bp_6 ?_
    refine z_icmp_ne (tgt := 34) d_M_act_27 (by decide) (fun c27 => ?_) (fun c27 => absurd c27 (by decide +kernel))
    refine z_aload_n d_M_act_34 rfl ?_
    refine z_get fa_M_103 d_M_act_35 (tp_o hA) rfl ?_
    refine z_iload_n d_M_act_38 rfl ?_
    refine z_iald (6 * (cn X 37 - 1) + (ne X 10 i)) d_M_act_39 (tp_a hA 41 rfl) rfl (show 6 * (cn X 37 - 1) + (ne X 10 i) < 60 from by omega) (by decide) ?_
    refine z_istore d_M_act_40 (zlt rfl) ?_
    refine z_aload_n d_M_act_42 rfl ?_
    refine z_get fa_M_25 d_M_act_43 (tp_o hA) rfl ?_
    refine z_iload_n d_M_act_46 rfl ?_
    refine z_iald (i) d_M_act_47 (tp_a hA 9 rfl) rfl (show i < 60 from by omega) (by decide) ?_
    refine z_top (s9.trans (by rw [e])) ?_
    refine z_if_eq (tgt := 61) d_M_act_48 (by decide) (fun c48 => absurd c48 (by decide +kernel)) (fun c48 => ?_)
    refine z_aload_n d_M_act_51 rfl ?_
    refine z_get fa_M_25 d_M_act_52 (tp_o hA) rfl ?_
    refine z_iload_n d_M_act_55 rfl ?_
    refine z_iald (i) d_M_act_56 (tp_a hA 9 rfl) rfl (show i < 60 from by omega) (by decide) ?_
    refine z_top (s9.trans (by rw [e])) ?_
    refine z_iconst d_M_act_57 ic_5 ?_
    refine z_icmp_ne (tgt := 65) d_M_act_58 (by decide) (fun c58 => ?_) (fun c58 => absurd c58 (by decide +kernel))
    refine z_aload_n d_M_act_65 rfl ?_
    refine z_get fa_M_103 d_M_act_66 (tp_o hA) rfl ?_
    refine z_iload_n d_M_act_69 rfl ?_
    refine z_aload_n d_M_act_70 rfl ?_
    refine z_get fa_M_31 d_M_act_71 (tp_o hA) rfl ?_
    refine z_iload_n d_M_act_74 rfl ?_
    refine z_iald (i) d_M_act_75 (tp_a hA 11 rfl) rfl (show i < 60 from by omega) (by decide) ?_
    refine z_top s11 ?_
    refine z_iadd d_M_act_76 ?_
    refine z_top (nI_add (6 * (cn X 37 - 1)) (ne X 11 i)) ?_
    refine z_iald (6 * (cn X 37 - 1) + (ne X 11 i)) d_M_act_77 (tp_a hA 41 rfl) rfl (show 6 * (cn X 37 - 1) + (ne X 11 i) < 60 from by omega) (by decide) ?_
    refine z_istore d_M_act_78 (zlt rfl) ?_
    refine z_aload_n d_M_act_80 rfl ?_
    refine z_get fa_M_25 d_M_act_81 (tp_o hA) rfl ?_
    refine z_iload_n d_M_act_84 rfl ?_
    refine z_iald (i) d_M_act_85 (tp_a hA 9 rfl) rfl (show i < 60 from by omega) (by decide) ?_
    refine z_top (s9.trans (by rw [e])) ?_
    rcases rfn (cn X 37 - 1) (by omega) (ne X 10 i) (by omega) with eq | ⟨oj, hoj, eq⟩
    · rw [eq]
      refine z_tabIn (tgt := 202) d_M_act_86 (by decide +kernel) (by decide +kernel) (show _ = some 116 by decide +kernel) (by decide) ?_
      refine z_aload_n d_M_act_202 rfl ?_
      refine z_iload d_M_act_203 rfl ?_
      refine z_aload_n d_M_act_205 rfl ?_
      refine z_get fa_M_34 d_M_act_206 (tp_o hA) rfl ?_
      refine z_iload_n d_M_act_209 rfl ?_
      refine z_iald (i) d_M_act_210 (tp_a hA 12 rfl) rfl (show i < 60 from by omega) (by decide) ?_
      refine z_top r12.1 ?_
      refine z_cVi (c_M_canHaveN l E hA X hX hR _ r12.2) cb_M_canHave ci_M_canHave ln_M_235 (tp_o hA) rfl rfl (zlq rfl) rfl (zlq rfl) (zlq rfl) d_M_act_211 ?_
      refine z_if_eq (tgt := 372) d_M_act_214 (by decide) (fun _ => ?_) (fun q => absurd rfl q)
      exact z_vret rfl d_M_act_372 (zlq rfl) (zlq rfl) (⟨rfl, by rw [tAct_3 e, eq, show cHv X (-1) (ne X 12 i) = false from by unfold cHv; rw [if_pos zneg]]; rfl⟩)
    · have hro := (ros oj hoj).2
      rw [eq]
      refine z_tabIn (tgt := 202) d_M_act_86 (by decide +kernel) (by decide +kernel) (show _ = some 116 by decide +kernel) (by decide) ?_
      refine z_aload_n d_M_act_202 rfl ?_
      refine z_iload d_M_act_203 rfl ?_
      refine z_aload_n d_M_act_205 rfl ?_
      refine z_get fa_M_34 d_M_act_206 (tp_o hA) rfl ?_
      refine z_iload_n d_M_act_209 rfl ?_
      refine z_iald (i) d_M_act_210 (tp_a hA 12 rfl) rfl (show i < 60 from by omega) (by decide) ?_
      refine z_top r12.1 ?_
      refine z_cVi (c_M_canHave l E hA X hX hR _ (Or.inr ⟨oj, hoj, rfl⟩) _ r12.2) cb_M_canHave ci_M_canHave ln_M_235 (tp_o hA) rfl rfl (zlq rfl) rfl (zlq rfl) (zlq rfl) d_M_act_211 ?_
      refine z_if_eq (tgt := 372) d_M_act_214 (by decide) (fun c214 => ?_) (fun c214 => ?_)
      · have c214n := bI_e.mp c214
        exact z_vret rfl d_M_act_372 (zlq rfl) (zlq rfl) (⟨rfl, by rw [tAct_3 e, eq, if_neg (zbf c214n)]; (try rw [nI_clamp (show oj < 2 ^ 31 by omega)]); (try rfl)⟩)
      · have c214n := bI_n.mp c214
        refine z_aload_n d_M_act_217 rfl ?_
        refine z_get fa_M_85 d_M_act_218 (tp_o hA) rfl ?_
        refine z_bipush d_M_act_221 bp_8 ?_
        refine z_iload d_M_act_223 rfl ?_
        refine z_imul d_M_act_225 ?_
        refine z_top (pk_mul (8) (oj)) ?_
        refine z_aload_n d_M_act_226 rfl ?_
        refine z_get fa_M_34 d_M_act_227 (tp_o hA) rfl ?_
        refine z_iload_n d_M_act_230 rfl ?_
        refine z_iald (i) d_M_act_231 (tp_a hA 12 rfl) rfl (show i < 60 from by omega) (by decide) ?_
        refine z_top r12.1 ?_
        refine z_iadd d_M_act_232 ?_
        refine z_top (nI_add (8 * oj) (ne X 12 i)) ?_
        refine z_iload d_M_act_233 rfl ?_
        refine t_ast (kf := 34) (j := 8 * oj + (ne X 12 i)) d_M_act_235 hA rfl rfl (show 8 * oj + (ne X 12 i) < 240 from by omega) (by decide) ?_
        refine z_goto (tgt := 372) d_M_act_236 (by decide) ?_
        exact z_vret rfl d_M_act_372 (zlq rfl) (zlq rfl) (⟨rfl, by rw [tAct_3 e, eq, if_pos c214n]; (try rw [nI_clamp (show oj < 2 ^ 31 by omega)]); (try rfl)⟩)
  · have q6 := l11b (by omega) (by omega)
    refine z_bipush d_M_act_0 bp_6 ?_
    refine z_aload_n d_M_act_2 rfl ?_
    refine z_get fa_M_222 d_M_act_3 (tp_o hA) rfl ?_
    refine z_top r37 ?_
    refine z_iconst d_M_act_6 ic_1 ?_
    refine z_isub d_M_act_7 ?_
    refine z_top (pk_sub (a := cn X 37) (b := 1) (by omega)) ?_
    refine z_imul d_M_act_8 ?_
    refine z_top (pk_mul (6) (cn X 37 - 1)) ?_
    refine z_istore_n d_M_act_9 (zlt rfl) ?_
    refine z_iload_n d_M_act_10 rfl ?_
    refine z_aload_n d_M_act_11 rfl ?_
    refine z_get fa_M_28 d_M_act_12 (tp_o hA) rfl ?_
    refine z_iload_n d_M_act_15 rfl ?_
    refine z_iald (i) d_M_act_16 (tp_a hA 10 rfl) rfl (show i < 60 from by omega) (by decide) ?_
    refine z_top s10 ?_
    refine z_iadd d_M_act_17 ?_
    refine z_top (nI_add (6 * (cn X 37 - 1)) (ne X 10 i)) ?_
    refine z_istore_n d_M_act_18 (zlt rfl) ?_
    refine z_aload_n d_M_act_19 rfl ?_
    refine z_get fa_M_25 d_M_act_20 (tp_o hA) rfl ?_
    refine z_iload_n d_M_act_23 rfl ?_
    refine z_iald (i) d_M_act_24 (tp_a hA 9 rfl) rfl (show i < 60 from by omega) (by decide) ?_
    refine z_top (s9.trans (by rw [e])) ?_
    refine z_bipush d_M_act_25 bp_6 ?_
    refine z_icmp_ne (tgt := 34) d_M_act_27 (by decide) (fun c27 => ?_) (fun c27 => absurd c27 (by decide +kernel))
    refine z_aload_n d_M_act_34 rfl ?_
    refine z_get fa_M_103 d_M_act_35 (tp_o hA) rfl ?_
    refine z_iload_n d_M_act_38 rfl ?_
    refine z_iald (6 * (cn X 37 - 1) + (ne X 10 i)) d_M_act_39 (tp_a hA 41 rfl) rfl (show 6 * (cn X 37 - 1) + (ne X 10 i) < 60 from by omega) (by decide) ?_
    refine z_istore d_M_act_40 (zlt rfl) ?_
    refine z_aload_n d_M_act_42 rfl ?_
    refine z_get fa_M_25 d_M_act_43 (tp_o hA) rfl ?_
    refine z_iload_n d_M_act_46 rfl ?_
    refine z_iald (i) d_M_act_47 (tp_a hA 9 rfl) rfl (show i < 60 from by omega) (by decide) ?_
    refine z_top (s9.trans (by rw [e])) ?_
    refine z_if_eq (tgt := 61) d_M_act_48 (by decide) (fun c48 => absurd c48 (by decide +kernel)) (fun c48 => ?_)
    refine z_aload_n d_M_act_51 rfl ?_
    refine z_get fa_M_25 d_M_act_52 (tp_o hA) rfl ?_
    refine z_iload_n d_M_act_55 rfl ?_
    refine z_iald (i) d_M_act_56 (tp_a hA 9 rfl) rfl (show i < 60 from by omega) (by decide) ?_
    refine z_top (s9.trans (by rw [e])) ?_
    refine z_iconst d_M_act_57 ic_5 ?_
    refine z_icmp_ne (tgt := 65) d_M_act_58 (by decide) (fun c58 => ?_) (fun c58 => absurd c58 (by decide +kernel))
    refine z_aload_n d_M_act_65 rfl ?_
    refine z_get fa_M_103 d_M_act_66 (tp_o hA) rfl ?_
    refine z_iload_n d_M_act_69 rfl ?_
    refine z_aload_n d_M_act_70 rfl ?_
    refine z_get fa_M_31 d_M_act_71 (tp_o hA) rfl ?_
    refine z_iload_n d_M_act_74 rfl ?_
    refine z_iald (i) d_M_act_75 (tp_a hA 11 rfl) rfl (show i < 60 from by omega) (by decide) ?_
    refine z_top s11 ?_
    refine z_iadd d_M_act_76 ?_
    refine z_top (nI_add (6 * (cn X 37 - 1)) (ne X 11 i)) ?_
    refine z_iald (6 * (cn X 37 - 1) + (ne X 11 i)) d_M_act_77 (tp_a hA 41 rfl) rfl (show 6 * (cn X 37 - 1) + (ne X 11 i) < 60 from by omega) (by decide) ?_
    refine z_istore d_M_act_78 (zlt rfl) ?_
    refine z_aload_n d_M_act_80 rfl ?_
    refine z_get fa_M_25 d_M_act_81 (tp_o hA) rfl ?_
    refine z_iload_n d_M_act_84 rfl ?_
    refine z_iald (i) d_M_act_85 (tp_a hA 9 rfl) rfl (show i < 60 from by omega) (by decide) ?_
    refine z_top (s9.trans (by rw [e])) ?_
    rcases rfn (cn X 37 - 1) (by omega) (ne X 11 i) (by omega) with eq | ⟨oj, hoj, eq⟩
    · rw [eq]
      refine z_tabIn (tgt := 239) d_M_act_86 (by decide +kernel) (by decide +kernel) (show _ = some 153 by decide +kernel) (by decide) ?_
      refine z_aload_n d_M_act_239 rfl ?_
      refine z_get fa_M_103 d_M_act_240 (tp_o hA) rfl ?_
      refine z_iload_n d_M_act_243 rfl ?_
      refine z_iload d_M_act_244 rfl ?_
      refine z_if_lt (tgt := 274) d_M_act_246 (by decide) (fun _ => ?_) (fun q => absurd zneg q)
      refine z_iload d_M_act_274 rfl ?_
      refine z_goto (tgt := 281) d_M_act_276 (by decide) ?_
      refine t_ast (kf := 41) (j := 6 * (cn X 37 - 1) + (ne X 10 i)) d_M_act_281 hA rfl rfl (show 6 * (cn X 37 - 1) + (ne X 10 i) < 60 from by omega) (by decide) ?_
      refine z_goto (tgt := 372) d_M_act_282 (by decide) ?_
      exact z_vret rfl d_M_act_372 (zlq rfl) (zlq rfl) (⟨rfl, by rw [tAct_4 e, eq, if_pos zneg]; (try rfl)⟩)
    · have hro := (ros oj hoj).2
      rw [eq]
      refine z_tabIn (tgt := 239) d_M_act_86 (by decide +kernel) (by decide +kernel) (show _ = some 153 by decide +kernel) (by decide) ?_
      refine z_aload_n d_M_act_239 rfl ?_
      refine z_get fa_M_103 d_M_act_240 (tp_o hA) rfl ?_
      refine z_iload_n d_M_act_243 rfl ?_
      refine z_iload d_M_act_244 rfl ?_
      refine z_if_lt (tgt := 274) d_M_act_246 (by decide) (fun q => absurd q (nI_pos (by omega))) (fun _ => ?_)
      refine z_aload_n d_M_act_249 rfl ?_
      refine z_aload_n d_M_act_250 rfl ?_
      refine z_get fa_M_46 d_M_act_251 (tp_o hA) rfl ?_
      refine z_aload_n d_M_act_254 rfl ?_
      refine z_get fa_M_82 d_M_act_255 (tp_o hA) rfl ?_
      refine z_iload d_M_act_258 rfl ?_
      refine z_iald (oj) d_M_act_260 (tp_a hA 33 rfl) rfl (show oj < 30 from by omega) (by decide) ?_
      refine z_top (ros oj hoj).1 ?_
      refine z_iald (ne X 33 oj) d_M_act_261 (tp_a hA 17 rfl) rfl (show ne X 33 oj < 20 from by omega) (by decide) ?_
      refine z_aload_n d_M_act_262 rfl ?_
      refine z_get fa_M_34 d_M_act_263 (tp_o hA) rfl ?_
      refine z_iload_n d_M_act_266 rfl ?_
      refine z_iald (i) d_M_act_267 (tp_a hA 12 rfl) rfl (show i < 60 from by omega) (by decide) ?_
      refine z_cVi (c_M_isUnder l E hA _ hX (X 17 (ne X 33 oj)) (X 12 (i)) (Or.inr (hs _ (ros oj hoj).2))) cb_M_isUnder ci_M_isUnder ln_M_119 (tp_o hA) rfl rfl (zlq rfl) rfl (zlq rfl) (zlq rfl) d_M_act_268 ?_
      refine z_if_eq (tgt := 279) d_M_act_271 (by decide) (fun c271 => ?_) (fun c271 => ?_)
      · have c271n := bI_e.mp c271
        refine z_iload d_M_act_279 rfl ?_
        refine t_ast (kf := 41) (j := 6 * (cn X 37 - 1) + (ne X 10 i)) d_M_act_281 hA rfl rfl (show 6 * (cn X 37 - 1) + (ne X 10 i) < 60 from by omega) (by decide) ?_
        refine z_goto (tgt := 372) d_M_act_282 (by decide) ?_
        exact z_vret rfl d_M_act_372 (zlq rfl) (zlq rfl) (⟨rfl, by rw [tAct_4 e, eq, if_neg (nI_pos (by omega)), nI_clamp (by omega), if_neg (zbf c271n)]; (try rfl)⟩)
      · have c271n := bI_n.mp c271
        refine z_iload d_M_act_274 rfl ?_
        refine z_goto (tgt := 281) d_M_act_276 (by decide) ?_
        refine t_ast (kf := 41) (j := 6 * (cn X 37 - 1) + (ne X 10 i)) d_M_act_281 hA rfl rfl (show 6 * (cn X 37 - 1) + (ne X 10 i) < 60 from by omega) (by decide) ?_
        refine z_goto (tgt := 372) d_M_act_282 (by decide) ?_
        exact z_vret rfl d_M_act_372 (zlq rfl) (zlq rfl) (⟨rfl, by rw [tAct_4 e, eq, if_neg (nI_pos (by omega)), nI_clamp (by omega), if_pos c271n]; (try rfl)⟩)
  · have q5 := l11a e
    refine z_bipush d_M_act_0 bp_6 ?_
    refine z_aload_n d_M_act_2 rfl ?_
    refine z_get fa_M_222 d_M_act_3 (tp_o hA) rfl ?_
    refine z_top r37 ?_
    refine z_iconst d_M_act_6 ic_1 ?_
    refine z_isub d_M_act_7 ?_
    refine z_top (pk_sub (a := cn X 37) (b := 1) (by omega)) ?_
    refine z_imul d_M_act_8 ?_
    refine z_top (pk_mul (6) (cn X 37 - 1)) ?_
    refine z_istore_n d_M_act_9 (zlt rfl) ?_
    refine z_iload_n d_M_act_10 rfl ?_
    refine z_aload_n d_M_act_11 rfl ?_
    refine z_get fa_M_28 d_M_act_12 (tp_o hA) rfl ?_
    refine z_iload_n d_M_act_15 rfl ?_
    refine z_iald (i) d_M_act_16 (tp_a hA 10 rfl) rfl (show i < 60 from by omega) (by decide) ?_
    refine z_top s10 ?_
    refine z_iadd d_M_act_17 ?_
    refine z_top (nI_add (6 * (cn X 37 - 1)) (ne X 10 i)) ?_
    refine z_istore_n d_M_act_18 (zlt rfl) ?_
    refine z_aload_n d_M_act_19 rfl ?_
    refine z_get fa_M_25 d_M_act_20 (tp_o hA) rfl ?_
    refine z_iload_n d_M_act_23 rfl ?_
    refine z_iald (i) d_M_act_24 (tp_a hA 9 rfl) rfl (show i < 60 from by omega) (by decide) ?_
    refine z_top (s9.trans (by rw [e])) ?_
    refine z_bipush d_M_act_25 bp_6 ?_
    refine z_icmp_ne (tgt := 34) d_M_act_27 (by decide) (fun c27 => ?_) (fun c27 => absurd c27 (by decide +kernel))
    refine z_aload_n d_M_act_34 rfl ?_
    refine z_get fa_M_103 d_M_act_35 (tp_o hA) rfl ?_
    refine z_iload_n d_M_act_38 rfl ?_
    refine z_iald (6 * (cn X 37 - 1) + (ne X 10 i)) d_M_act_39 (tp_a hA 41 rfl) rfl (show 6 * (cn X 37 - 1) + (ne X 10 i) < 60 from by omega) (by decide) ?_
    refine z_istore d_M_act_40 (zlt rfl) ?_
    refine z_aload_n d_M_act_42 rfl ?_
    refine z_get fa_M_25 d_M_act_43 (tp_o hA) rfl ?_
    refine z_iload_n d_M_act_46 rfl ?_
    refine z_iald (i) d_M_act_47 (tp_a hA 9 rfl) rfl (show i < 60 from by omega) (by decide) ?_
    refine z_top (s9.trans (by rw [e])) ?_
    refine z_if_eq (tgt := 61) d_M_act_48 (by decide) (fun c48 => absurd c48 (by decide +kernel)) (fun c48 => ?_)
    refine z_aload_n d_M_act_51 rfl ?_
    refine z_get fa_M_25 d_M_act_52 (tp_o hA) rfl ?_
    refine z_iload_n d_M_act_55 rfl ?_
    refine z_iald (i) d_M_act_56 (tp_a hA 9 rfl) rfl (show i < 60 from by omega) (by decide) ?_
    refine z_top (s9.trans (by rw [e])) ?_
    refine z_iconst d_M_act_57 ic_5 ?_
    refine z_icmp_ne (tgt := 65) d_M_act_58 (by decide) (fun c58 => absurd (by decide +kernel) c58) (fun c58 => ?_)
    refine z_iconst (v := -1) d_M_act_61 ic_m1 ?_
    refine z_goto (tgt := 78) d_M_act_62 (by decide) ?_
    refine z_istore d_M_act_78 (zlt rfl) ?_
    refine z_aload_n d_M_act_80 rfl ?_
    refine z_get fa_M_25 d_M_act_81 (tp_o hA) rfl ?_
    refine z_iload_n d_M_act_84 rfl ?_
    refine z_iald (i) d_M_act_85 (tp_a hA 9 rfl) rfl (show i < 60 from by omega) (by decide) ?_
    refine z_top (s9.trans (by rw [e])) ?_
    refine z_tabIn (tgt := 285) d_M_act_86 (by decide +kernel) (by decide +kernel) (show _ = some 199 by decide +kernel) (by decide) ?_
    refine z_aload_n d_M_act_285 rfl ?_
    refine z_get fa_M_103 d_M_act_286 (tp_o hA) rfl ?_
    refine z_iload_n d_M_act_289 rfl ?_
    refine z_aload_n d_M_act_290 rfl ?_
    refine z_get fa_M_91 d_M_act_291 (tp_o hA) rfl ?_
    refine z_aload_n d_M_act_294 rfl ?_
    refine z_get fa_M_31 d_M_act_295 (tp_o hA) rfl ?_
    refine z_iload_n d_M_act_298 rfl ?_
    refine z_iald (i) d_M_act_299 (tp_a hA 11 rfl) rfl (show i < 60 from by omega) (by decide) ?_
    refine z_top s11 ?_
    refine z_iald (ne X 11 i) d_M_act_300 (tp_a hA 36 rfl) rfl (show ne X 11 i < 4 from by omega) (by decide) ?_
    refine t_ast (kf := 41) (j := 6 * (cn X 37 - 1) + (ne X 10 i)) d_M_act_301 hA rfl rfl (show 6 * (cn X 37 - 1) + (ne X 10 i) < 60 from by omega) (by decide) ?_
    refine z_goto (tgt := 372) d_M_act_302 (by decide) ?_
    exact z_vret rfl d_M_act_372 (zlq rfl) (zlq rfl) (⟨rfl, by rw [tAct_5 e]; (try rfl)⟩)
  · have q6 := l11b (by omega) (by omega)
    have q4 := l10a e
    refine z_bipush d_M_act_0 bp_6 ?_
    refine z_aload_n d_M_act_2 rfl ?_
    refine z_get fa_M_222 d_M_act_3 (tp_o hA) rfl ?_
    refine z_top r37 ?_
    refine z_iconst d_M_act_6 ic_1 ?_
    refine z_isub d_M_act_7 ?_
    refine z_top (pk_sub (a := cn X 37) (b := 1) (by omega)) ?_
    refine z_imul d_M_act_8 ?_
    refine z_top (pk_mul (6) (cn X 37 - 1)) ?_
    refine z_istore_n d_M_act_9 (zlt rfl) ?_
    refine z_iload_n d_M_act_10 rfl ?_
    refine z_aload_n d_M_act_11 rfl ?_
    refine z_get fa_M_28 d_M_act_12 (tp_o hA) rfl ?_
    refine z_iload_n d_M_act_15 rfl ?_
    refine z_iald (i) d_M_act_16 (tp_a hA 10 rfl) rfl (show i < 60 from by omega) (by decide) ?_
    refine z_top s10 ?_
    refine z_iadd d_M_act_17 ?_
    refine z_top (nI_add (6 * (cn X 37 - 1)) (ne X 10 i)) ?_
    refine z_istore_n d_M_act_18 (zlt rfl) ?_
    refine z_aload_n d_M_act_19 rfl ?_
    refine z_get fa_M_25 d_M_act_20 (tp_o hA) rfl ?_
    refine z_iload_n d_M_act_23 rfl ?_
    refine z_iald (i) d_M_act_24 (tp_a hA 9 rfl) rfl (show i < 60 from by omega) (by decide) ?_
    refine z_top (s9.trans (by rw [e])) ?_
    refine z_bipush d_M_act_25 bp_6 ?_
    refine z_icmp_ne (tgt := 34) d_M_act_27 (by decide) (fun c27 => absurd (by decide +kernel) c27) (fun c27 => ?_)
    refine z_iconst (v := -1) d_M_act_30 ic_m1 ?_
    refine z_goto (tgt := 40) d_M_act_31 (by decide) ?_
    refine z_istore d_M_act_40 (zlt rfl) ?_
    refine z_aload_n d_M_act_42 rfl ?_
    refine z_get fa_M_25 d_M_act_43 (tp_o hA) rfl ?_
    refine z_iload_n d_M_act_46 rfl ?_
    refine z_iald (i) d_M_act_47 (tp_a hA 9 rfl) rfl (show i < 60 from by omega) (by decide) ?_
    refine z_top (s9.trans (by rw [e])) ?_
    refine z_if_eq (tgt := 61) d_M_act_48 (by decide) (fun c48 => absurd c48 (by decide +kernel)) (fun c48 => ?_)
    refine z_aload_n d_M_act_51 rfl ?_
    refine z_get fa_M_25 d_M_act_52 (tp_o hA) rfl ?_
    refine z_iload_n d_M_act_55 rfl ?_
    refine z_iald (i) d_M_act_56 (tp_a hA 9 rfl) rfl (show i < 60 from by omega) (by decide) ?_
    refine z_top (s9.trans (by rw [e])) ?_
    refine z_iconst d_M_act_57 ic_5 ?_
    refine z_icmp_ne (tgt := 65) d_M_act_58 (by decide) (fun c58 => ?_) (fun c58 => absurd c58 (by decide +kernel))
    refine z_aload_n d_M_act_65 rfl ?_
    refine z_get fa_M_103 d_M_act_66 (tp_o hA) rfl ?_
    refine z_iload_n d_M_act_69 rfl ?_
    refine z_aload_n d_M_act_70 rfl ?_
    refine z_get fa_M_31 d_M_act_71 (tp_o hA) rfl ?_
    refine z_iload_n d_M_act_74 rfl ?_
    refine z_iald (i) d_M_act_75 (tp_a hA 11 rfl) rfl (show i < 60 from by omega) (by decide) ?_
    refine z_top s11 ?_
    refine z_iadd d_M_act_76 ?_
    refine z_top (nI_add (6 * (cn X 37 - 1)) (ne X 11 i)) ?_
    refine z_iald (6 * (cn X 37 - 1) + (ne X 11 i)) d_M_act_77 (tp_a hA 41 rfl) rfl (show 6 * (cn X 37 - 1) + (ne X 11 i) < 60 from by omega) (by decide) ?_
    refine z_istore d_M_act_78 (zlt rfl) ?_
    refine z_aload_n d_M_act_80 rfl ?_
    refine z_get fa_M_25 d_M_act_81 (tp_o hA) rfl ?_
    refine z_iload_n d_M_act_84 rfl ?_
    refine z_iald (i) d_M_act_85 (tp_a hA 9 rfl) rfl (show i < 60 from by omega) (by decide) ?_
    refine z_top (s9.trans (by rw [e])) ?_
    refine z_tabIn (tgt := 305) d_M_act_86 (by decide +kernel) (by decide +kernel) (show _ = some 219 by decide +kernel) (by decide) ?_
    refine z_aload_n d_M_act_305 rfl ?_
    refine z_get fa_M_91 d_M_act_306 (tp_o hA) rfl ?_
    refine z_aload_n d_M_act_309 rfl ?_
    refine z_get fa_M_28 d_M_act_310 (tp_o hA) rfl ?_
    refine z_iload_n d_M_act_313 rfl ?_
    refine z_iald (i) d_M_act_314 (tp_a hA 10 rfl) rfl (show i < 60 from by omega) (by decide) ?_
    refine z_top s10 ?_
    refine z_iload d_M_act_315 rfl ?_
    refine t_ast (kf := 36) (j := ne X 10 i) d_M_act_317 hA rfl rfl (show ne X 10 i < 4 from by omega) (by decide) ?_
    refine z_goto (tgt := 372) d_M_act_318 (by decide) ?_
    exact z_vret rfl d_M_act_372 (zlq rfl) (zlq rfl) (⟨rfl, by rw [tAct_6 e]; (try rfl)⟩)
  · have q6 := l11b (by omega) (by omega)
    refine z_bipush d_M_act_0 bp_6 ?_
    refine z_aload_n d_M_act_2 rfl ?_
    refine z_get fa_M_222 d_M_act_3 (tp_o hA) rfl ?_
    refine z_top r37 ?_
    refine z_iconst d_M_act_6 ic_1 ?_
    refine z_isub d_M_act_7 ?_
    refine z_top (pk_sub (a := cn X 37) (b := 1) (by omega)) ?_
    refine z_imul d_M_act_8 ?_
    refine z_top (pk_mul (6) (cn X 37 - 1)) ?_
    refine z_istore_n d_M_act_9 (zlt rfl) ?_
    refine z_iload_n d_M_act_10 rfl ?_
    refine z_aload_n d_M_act_11 rfl ?_
    refine z_get fa_M_28 d_M_act_12 (tp_o hA) rfl ?_
    refine z_iload_n d_M_act_15 rfl ?_
    refine z_iald (i) d_M_act_16 (tp_a hA 10 rfl) rfl (show i < 60 from by omega) (by decide) ?_
    refine z_top s10 ?_
    refine z_iadd d_M_act_17 ?_
    refine z_top (nI_add (6 * (cn X 37 - 1)) (ne X 10 i)) ?_
    refine z_istore_n d_M_act_18 (zlt rfl) ?_
    refine z_aload_n d_M_act_19 rfl ?_
    refine z_get fa_M_25 d_M_act_20 (tp_o hA) rfl ?_
    refine z_iload_n d_M_act_23 rfl ?_
    refine z_iald (i) d_M_act_24 (tp_a hA 9 rfl) rfl (show i < 60 from by omega) (by decide) ?_
    refine z_top (s9.trans (by rw [e])) ?_
    refine z_bipush d_M_act_25 bp_6 ?_
    refine z_icmp_ne (tgt := 34) d_M_act_27 (by decide) (fun c27 => ?_) (fun c27 => absurd c27 (by decide +kernel))
    refine z_aload_n d_M_act_34 rfl ?_
    refine z_get fa_M_103 d_M_act_35 (tp_o hA) rfl ?_
    refine z_iload_n d_M_act_38 rfl ?_
    refine z_iald (6 * (cn X 37 - 1) + (ne X 10 i)) d_M_act_39 (tp_a hA 41 rfl) rfl (show 6 * (cn X 37 - 1) + (ne X 10 i) < 60 from by omega) (by decide) ?_
    refine z_istore d_M_act_40 (zlt rfl) ?_
    refine z_aload_n d_M_act_42 rfl ?_
    refine z_get fa_M_25 d_M_act_43 (tp_o hA) rfl ?_
    refine z_iload_n d_M_act_46 rfl ?_
    refine z_iald (i) d_M_act_47 (tp_a hA 9 rfl) rfl (show i < 60 from by omega) (by decide) ?_
    refine z_top (s9.trans (by rw [e])) ?_
    refine z_if_eq (tgt := 61) d_M_act_48 (by decide) (fun c48 => absurd c48 (by decide +kernel)) (fun c48 => ?_)
    refine z_aload_n d_M_act_51 rfl ?_
    refine z_get fa_M_25 d_M_act_52 (tp_o hA) rfl ?_
    refine z_iload_n d_M_act_55 rfl ?_
    refine z_iald (i) d_M_act_56 (tp_a hA 9 rfl) rfl (show i < 60 from by omega) (by decide) ?_
    refine z_top (s9.trans (by rw [e])) ?_
    refine z_iconst d_M_act_57 ic_5 ?_
    refine z_icmp_ne (tgt := 65) d_M_act_58 (by decide) (fun c58 => ?_) (fun c58 => absurd c58 (by decide +kernel))
    refine z_aload_n d_M_act_65 rfl ?_
    refine z_get fa_M_103 d_M_act_66 (tp_o hA) rfl ?_
    refine z_iload_n d_M_act_69 rfl ?_
    refine z_aload_n d_M_act_70 rfl ?_
    refine z_get fa_M_31 d_M_act_71 (tp_o hA) rfl ?_
    refine z_iload_n d_M_act_74 rfl ?_
    refine z_iald (i) d_M_act_75 (tp_a hA 11 rfl) rfl (show i < 60 from by omega) (by decide) ?_
    refine z_top s11 ?_
    refine z_iadd d_M_act_76 ?_
    refine z_top (nI_add (6 * (cn X 37 - 1)) (ne X 11 i)) ?_
    refine z_iald (6 * (cn X 37 - 1) + (ne X 11 i)) d_M_act_77 (tp_a hA 41 rfl) rfl (show 6 * (cn X 37 - 1) + (ne X 11 i) < 60 from by omega) (by decide) ?_
    refine z_istore d_M_act_78 (zlt rfl) ?_
    refine z_aload_n d_M_act_80 rfl ?_
    refine z_get fa_M_25 d_M_act_81 (tp_o hA) rfl ?_
    refine z_iload_n d_M_act_84 rfl ?_
    refine z_iald (i) d_M_act_85 (tp_a hA 9 rfl) rfl (show i < 60 from by omega) (by decide) ?_
    refine z_top (s9.trans (by rw [e])) ?_
    refine z_tabIn (tgt := 321) d_M_act_86 (by decide +kernel) (by decide +kernel) (show _ = some 235 by decide +kernel) (by decide) ?_
    refine z_aload_n d_M_act_321 rfl ?_
    refine z_iload_n d_M_act_322 rfl ?_
    refine z_iload_n d_M_act_323 rfl ?_
    refine z_iload d_M_act_324 rfl ?_
    refine z_cVv (c_M_enter l E hA X hX hR i hi e _ rfl _ (rfn _ (by omega) _ q6)) cb_M_enter ci_M_enter ln_M_238 (tp_o hA) rfl rfl (zlq rfl) rfl (zlq rfl) (zlq rfl) d_M_act_326 ?_
    refine z_goto (tgt := 372) d_M_act_329 (by decide) ?_
    exact z_vret rfl d_M_act_372 (zlq rfl) (zlq rfl) (⟨rfl, by rw [tAct_7 e]; (try rfl)⟩)
  · have q6 := l11b (by omega) (by omega)
    refine z_bipush d_M_act_0 bp_6 ?_
    refine z_aload_n d_M_act_2 rfl ?_
    refine z_get fa_M_222 d_M_act_3 (tp_o hA) rfl ?_
    refine z_top r37 ?_
    refine z_iconst d_M_act_6 ic_1 ?_
    refine z_isub d_M_act_7 ?_
    refine z_top (pk_sub (a := cn X 37) (b := 1) (by omega)) ?_
    refine z_imul d_M_act_8 ?_
    refine z_top (pk_mul (6) (cn X 37 - 1)) ?_
    refine z_istore_n d_M_act_9 (zlt rfl) ?_
    refine z_iload_n d_M_act_10 rfl ?_
    refine z_aload_n d_M_act_11 rfl ?_
    refine z_get fa_M_28 d_M_act_12 (tp_o hA) rfl ?_
    refine z_iload_n d_M_act_15 rfl ?_
    refine z_iald (i) d_M_act_16 (tp_a hA 10 rfl) rfl (show i < 60 from by omega) (by decide) ?_
    refine z_top s10 ?_
    refine z_iadd d_M_act_17 ?_
    refine z_top (nI_add (6 * (cn X 37 - 1)) (ne X 10 i)) ?_
    refine z_istore_n d_M_act_18 (zlt rfl) ?_
    refine z_aload_n d_M_act_19 rfl ?_
    refine z_get fa_M_25 d_M_act_20 (tp_o hA) rfl ?_
    refine z_iload_n d_M_act_23 rfl ?_
    refine z_iald (i) d_M_act_24 (tp_a hA 9 rfl) rfl (show i < 60 from by omega) (by decide) ?_
    refine z_top (s9.trans (by rw [e])) ?_
    refine z_bipush d_M_act_25 bp_6 ?_
    refine z_icmp_ne (tgt := 34) d_M_act_27 (by decide) (fun c27 => ?_) (fun c27 => absurd c27 (by decide +kernel))
    refine z_aload_n d_M_act_34 rfl ?_
    refine z_get fa_M_103 d_M_act_35 (tp_o hA) rfl ?_
    refine z_iload_n d_M_act_38 rfl ?_
    refine z_iald (6 * (cn X 37 - 1) + (ne X 10 i)) d_M_act_39 (tp_a hA 41 rfl) rfl (show 6 * (cn X 37 - 1) + (ne X 10 i) < 60 from by omega) (by decide) ?_
    refine z_istore d_M_act_40 (zlt rfl) ?_
    refine z_aload_n d_M_act_42 rfl ?_
    refine z_get fa_M_25 d_M_act_43 (tp_o hA) rfl ?_
    refine z_iload_n d_M_act_46 rfl ?_
    refine z_iald (i) d_M_act_47 (tp_a hA 9 rfl) rfl (show i < 60 from by omega) (by decide) ?_
    refine z_top (s9.trans (by rw [e])) ?_
    refine z_if_eq (tgt := 61) d_M_act_48 (by decide) (fun c48 => absurd c48 (by decide +kernel)) (fun c48 => ?_)
    refine z_aload_n d_M_act_51 rfl ?_
    refine z_get fa_M_25 d_M_act_52 (tp_o hA) rfl ?_
    refine z_iload_n d_M_act_55 rfl ?_
    refine z_iald (i) d_M_act_56 (tp_a hA 9 rfl) rfl (show i < 60 from by omega) (by decide) ?_
    refine z_top (s9.trans (by rw [e])) ?_
    refine z_iconst d_M_act_57 ic_5 ?_
    refine z_icmp_ne (tgt := 65) d_M_act_58 (by decide) (fun c58 => ?_) (fun c58 => absurd c58 (by decide +kernel))
    refine z_aload_n d_M_act_65 rfl ?_
    refine z_get fa_M_103 d_M_act_66 (tp_o hA) rfl ?_
    refine z_iload_n d_M_act_69 rfl ?_
    refine z_aload_n d_M_act_70 rfl ?_
    refine z_get fa_M_31 d_M_act_71 (tp_o hA) rfl ?_
    refine z_iload_n d_M_act_74 rfl ?_
    refine z_iald (i) d_M_act_75 (tp_a hA 11 rfl) rfl (show i < 60 from by omega) (by decide) ?_
    refine z_top s11 ?_
    refine z_iadd d_M_act_76 ?_
    refine z_top (nI_add (6 * (cn X 37 - 1)) (ne X 11 i)) ?_
    refine z_iald (6 * (cn X 37 - 1) + (ne X 11 i)) d_M_act_77 (tp_a hA 41 rfl) rfl (show 6 * (cn X 37 - 1) + (ne X 11 i) < 60 from by omega) (by decide) ?_
    refine z_istore d_M_act_78 (zlt rfl) ?_
    refine z_aload_n d_M_act_80 rfl ?_
    refine z_get fa_M_25 d_M_act_81 (tp_o hA) rfl ?_
    refine z_iload_n d_M_act_84 rfl ?_
    refine z_iald (i) d_M_act_85 (tp_a hA 9 rfl) rfl (show i < 60 from by omega) (by decide) ?_
    refine z_top (s9.trans (by rw [e])) ?_
    rcases rfn (cn X 37 - 1) (by omega) (ne X 11 i) (by omega) with eq | ⟨oj, hoj, eq⟩
    · rw [eq]
      refine z_tabIn (tgt := 332) d_M_act_86 (by decide +kernel) (by decide +kernel) (show _ = some 246 by decide +kernel) (by decide) ?_
      refine z_aload_n d_M_act_332 rfl ?_
      refine z_get fa_M_103 d_M_act_333 (tp_o hA) rfl ?_
      refine z_iload_n d_M_act_336 rfl ?_
      refine z_iload d_M_act_337 rfl ?_
      refine z_if_lt (tgt := 352) d_M_act_339 (by decide) (fun _ => ?_) (fun q => absurd zneg q)
      refine z_iload d_M_act_352 rfl ?_
      refine t_ast (kf := 41) (j := 6 * (cn X 37 - 1) + (ne X 10 i)) d_M_act_354 hA rfl rfl (show 6 * (cn X 37 - 1) + (ne X 10 i) < 60 from by omega) (by decide) ?_
      refine z_goto (tgt := 372) d_M_act_355 (by decide) ?_
      exact z_vret rfl d_M_act_372 (zlq rfl) (zlq rfl) (⟨rfl, by rw [tAct_8 e, eq, if_pos zneg]; (try rfl)⟩)
    · have hro := (ros oj hoj).2
      rw [eq]
      refine z_tabIn (tgt := 332) d_M_act_86 (by decide +kernel) (by decide +kernel) (show _ = some 246 by decide +kernel) (by decide) ?_
      refine z_aload_n d_M_act_332 rfl ?_
      refine z_get fa_M_103 d_M_act_333 (tp_o hA) rfl ?_
      refine z_iload_n d_M_act_336 rfl ?_
      refine z_iload d_M_act_337 rfl ?_
      refine z_if_lt (tgt := 352) d_M_act_339 (by decide) (fun q => absurd q (nI_pos (by omega))) (fun _ => ?_)
      refine z_aload_n d_M_act_342 rfl ?_
      refine z_get fa_M_88 d_M_act_343 (tp_o hA) rfl ?_
      refine z_iload d_M_act_346 rfl ?_
      refine z_iald (oj) d_M_act_348 (tp_a hA 35 rfl) rfl (show oj < 30 from by omega) (by decide) ?_
      refine z_goto (tgt := 354) d_M_act_349 (by decide) ?_
      refine t_ast (kf := 41) (j := 6 * (cn X 37 - 1) + (ne X 10 i)) d_M_act_354 hA rfl rfl (show 6 * (cn X 37 - 1) + (ne X 10 i) < 60 from by omega) (by decide) ?_
      refine z_goto (tgt := 372) d_M_act_355 (by decide) ?_
      exact z_vret rfl d_M_act_372 (zlq rfl) (zlq rfl) (⟨rfl, by rw [tAct_8 e, eq, if_neg (nI_pos (by omega)), nI_clamp (by omega)]; (try rfl)⟩)
  · have q6 := l11b (by omega) (by omega)
    refine z_bipush d_M_act_0 bp_6 ?_
    refine z_aload_n d_M_act_2 rfl ?_
    refine z_get fa_M_222 d_M_act_3 (tp_o hA) rfl ?_
    refine z_top r37 ?_
    refine z_iconst d_M_act_6 ic_1 ?_
    refine z_isub d_M_act_7 ?_
    refine z_top (pk_sub (a := cn X 37) (b := 1) (by omega)) ?_
    refine z_imul d_M_act_8 ?_
    refine z_top (pk_mul (6) (cn X 37 - 1)) ?_
    refine z_istore_n d_M_act_9 (zlt rfl) ?_
    refine z_iload_n d_M_act_10 rfl ?_
    refine z_aload_n d_M_act_11 rfl ?_
    refine z_get fa_M_28 d_M_act_12 (tp_o hA) rfl ?_
    refine z_iload_n d_M_act_15 rfl ?_
    refine z_iald (i) d_M_act_16 (tp_a hA 10 rfl) rfl (show i < 60 from by omega) (by decide) ?_
    refine z_top s10 ?_
    refine z_iadd d_M_act_17 ?_
    refine z_top (nI_add (6 * (cn X 37 - 1)) (ne X 10 i)) ?_
    refine z_istore_n d_M_act_18 (zlt rfl) ?_
    refine z_aload_n d_M_act_19 rfl ?_
    refine z_get fa_M_25 d_M_act_20 (tp_o hA) rfl ?_
    refine z_iload_n d_M_act_23 rfl ?_
    refine z_iald (i) d_M_act_24 (tp_a hA 9 rfl) rfl (show i < 60 from by omega) (by decide) ?_
    refine z_top (s9.trans (by rw [e])) ?_
    refine z_bipush d_M_act_25 bp_6 ?_
    refine z_icmp_ne (tgt := 34) d_M_act_27 (by decide) (fun c27 => ?_) (fun c27 => absurd c27 (by decide +kernel))
    refine z_aload_n d_M_act_34 rfl ?_
    refine z_get fa_M_103 d_M_act_35 (tp_o hA) rfl ?_
    refine z_iload_n d_M_act_38 rfl ?_
    refine z_iald (6 * (cn X 37 - 1) + (ne X 10 i)) d_M_act_39 (tp_a hA 41 rfl) rfl (show 6 * (cn X 37 - 1) + (ne X 10 i) < 60 from by omega) (by decide) ?_
    refine z_istore d_M_act_40 (zlt rfl) ?_
    refine z_aload_n d_M_act_42 rfl ?_
    refine z_get fa_M_25 d_M_act_43 (tp_o hA) rfl ?_
    refine z_iload_n d_M_act_46 rfl ?_
    refine z_iald (i) d_M_act_47 (tp_a hA 9 rfl) rfl (show i < 60 from by omega) (by decide) ?_
    refine z_top (s9.trans (by rw [e])) ?_
    refine z_if_eq (tgt := 61) d_M_act_48 (by decide) (fun c48 => absurd c48 (by decide +kernel)) (fun c48 => ?_)
    refine z_aload_n d_M_act_51 rfl ?_
    refine z_get fa_M_25 d_M_act_52 (tp_o hA) rfl ?_
    refine z_iload_n d_M_act_55 rfl ?_
    refine z_iald (i) d_M_act_56 (tp_a hA 9 rfl) rfl (show i < 60 from by omega) (by decide) ?_
    refine z_top (s9.trans (by rw [e])) ?_
    refine z_iconst d_M_act_57 ic_5 ?_
    refine z_icmp_ne (tgt := 65) d_M_act_58 (by decide) (fun c58 => ?_) (fun c58 => absurd c58 (by decide +kernel))
    refine z_aload_n d_M_act_65 rfl ?_
    refine z_get fa_M_103 d_M_act_66 (tp_o hA) rfl ?_
    refine z_iload_n d_M_act_69 rfl ?_
    refine z_aload_n d_M_act_70 rfl ?_
    refine z_get fa_M_31 d_M_act_71 (tp_o hA) rfl ?_
    refine z_iload_n d_M_act_74 rfl ?_
    refine z_iald (i) d_M_act_75 (tp_a hA 11 rfl) rfl (show i < 60 from by omega) (by decide) ?_
    refine z_top s11 ?_
    refine z_iadd d_M_act_76 ?_
    refine z_top (nI_add (6 * (cn X 37 - 1)) (ne X 11 i)) ?_
    refine z_iald (6 * (cn X 37 - 1) + (ne X 11 i)) d_M_act_77 (tp_a hA 41 rfl) rfl (show 6 * (cn X 37 - 1) + (ne X 11 i) < 60 from by omega) (by decide) ?_
    refine z_istore d_M_act_78 (zlt rfl) ?_
    refine z_aload_n d_M_act_80 rfl ?_
    refine z_get fa_M_25 d_M_act_81 (tp_o hA) rfl ?_
    refine z_iload_n d_M_act_84 rfl ?_
    refine z_iald (i) d_M_act_85 (tp_a hA 9 rfl) rfl (show i < 60 from by omega) (by decide) ?_
    refine z_top (s9.trans (by rw [e])) ?_
    rcases rfn (cn X 37 - 1) (by omega) (ne X 10 i) (by omega) with eq | ⟨oj, hoj, eq⟩
    · rw [eq]
      refine z_tabOut (tgt := 358) d_M_act_86 (by decide +kernel) (by decide) ?_
      refine z_iload d_M_act_358 rfl ?_
      refine z_if_lt (tgt := 372) d_M_act_360 (by decide) (fun _ => ?_) (fun q => absurd zneg q)
      exact z_vret rfl d_M_act_372 (zlq rfl) (zlq rfl) (⟨rfl, by rw [tAct_9 e, eq, if_pos zneg]; (try rfl)⟩)
    · have hro := (ros oj hoj).2
      rw [eq]
      refine z_tabOut (tgt := 358) d_M_act_86 (by decide +kernel) (by decide) ?_
      refine z_iload d_M_act_358 rfl ?_
      refine z_if_lt (tgt := 372) d_M_act_360 (by decide) (fun q => absurd q (nI_pos (by omega))) (fun _ => ?_)
      refine z_aload_n d_M_act_363 rfl ?_
      refine z_get fa_M_88 d_M_act_364 (tp_o hA) rfl ?_
      refine z_iload d_M_act_367 rfl ?_
      refine z_iload d_M_act_369 rfl ?_
      refine t_ast (kf := 35) (j := oj) d_M_act_371 hA rfl rfl (show oj < 30 from by omega) (by decide) ?_
      exact z_vret rfl d_M_act_372 (zlq rfl) (zlq rfl) (⟨rfl, by rw [tAct_9 e, eq, if_neg (nI_pos (by omega)), nI_clamp (by omega)]; (try rfl)⟩)
