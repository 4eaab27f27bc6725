/-! the twin: holds -/
def hO1 (X : zSt) (n : Nat) : Int32 := X 41 (6 * (cn X 37 - 1) + n)
def tH1 (X : zSt) (n : Nat) (z : Bool × zSt) : Bool × zSt := (z.1 && inS X (X 41 (6 * (cn X 37 - 1) + n)) (X 20 (126 * (ne X 38 (cn X 37 - 1)) + 6 * (ne X 39 (cn X 37 - 1)) + n)), orA z.2 42 (6 * (ne X 38 (cn X 37 - 1)) + n) (if X 41 (6 * (cn X 37 - 1) + n) < 0 then nI 0 else nI 1 <<< (X 33 (X 41 (6 * (cn X 37 - 1) + n)).toNatClampNeg &&& 31)))
def tHa (X : zSt) : Bool × zSt := zit (fun n z => tH1 X n z) 6 (true, X)
def tHb (X : zSt) (g : Bool) : Bool := zit (fun s z => z && inS X (X 36 (s)) (X 26 (s))) 4 g
def tHc1 (X : zSt) (o : Nat) (g : Bool) : Bool := zit (fun f z => z && inS X (X 34 (8 * o + f)) (X 22 (8 * (ne X 33 o) + f))) (cn X 2) (g && inS X (X 35 (o)) (X 24 (ne X 33 o)))
def tHc (X : zSt) (g : Bool) : Bool := zit (fun o z => tHc1 X o z) (cn X 32) g
def tHolds (X : zSt) : Bool × zSt := (tHc X (tHb X (tHa X).1), (tHa X).2)
theorem tHa_tsm {X : zSt} : tsm [42] X (tHa X).2 := zit_inv (f := fun n z => tH1 X n z) (I := fun _ z => tsm [42] X z.2) (N := 6) (x0 := (true, X)) tsm_rf (fun k z _ h => tsm_tr h (orA_tsm (by decide))) 6 (Nat.le_refl 6)
theorem inS_c {X Y : zSt} (h : Y 33 = X 33) (o s : Int32) : inS Y o s = inS X o s := by unfold inS; rw [h]
theorem c_M_isInY (l : Launch) (E : zE) {A : Nat → Nat} (hA : tmI A) {X Y : zSt} (h33 : Y 33 = X 33) (n : Nat) (hn : n ≤ 30) (o : Int32) (ho : oR n o) (s : Int32) : zM l E y_M_isIn b_M_isIn 3 (some .boolean) rm_M_isIn [.ref (A 44), .int o, .int s] (tp E A Y) (zPi (bI (inS X o s)) (tp E A Y)) := by
  have h := c_M_isIn l E hA Y n hn o ho s
  rw [inS_c h33] at h
  exact h
abbrev rm_M_holds : Room := { frames := 1, cells := 0, slots := 0, locals := 22 }
set_option maxHeartbeats 4000000 in
set_option maxRecDepth 100000 in
theorem c_M_holds (l : Launch) (E : zE) {A : Nat → Nat} (hA : tmI A) (X : zSt) (hX : tInv X) (hR : rInv X) : zM l E y_M_holds b_M_holds 5 ((some .boolean)) rm_M_holds [.ref (A 44)] (tp E A X) (zPi (bI (tHolds X).1) (tp E A (tHolds X).2)) := by
  refine zM_w (by decide +kernel) rfl rfl (fun sz => ?_)
  obtain ⟨⟨⟨h0, b0⟩, ⟨h2, b2⟩, ⟨h4, b4⟩, ⟨h7, b7⟩, ⟨h16, b16⟩⟩, h18, h19, hp, hf, hs, hst⟩ := id hX
  obtain ⟨⟨r37, r37a, r37b⟩, ⟨r32, r32b⟩, rfm, rfn, ros, roe, rof, rst⟩ := id hR
  obtain ⟨⟨rm1, rm2⟩, ⟨rc1, rc2⟩, -⟩ := rfm (cn X 37 - 1) (by omega)
  refine z_iconst d_M_holds_0 ic_1 ?_
  refine z_istore_n d_M_holds_1 (zlt rfl) ?_
  refine z_aload_n d_M_holds_2 rfl ?_
  refine z_get fa_M_222 d_M_holds_3 (tp_o hA) rfl ?_
  refine z_top r37 ?_
  refine z_iconst d_M_holds_6 ic_1 ?_
  refine z_isub d_M_holds_7 ?_
  refine z_top (pk_sub (a := cn X 37) (b := 1) (by omega)) ?_
  refine z_istore_n d_M_holds_8 (zlt rfl) ?_
  refine z_iconst d_M_holds_9 ic_0 ?_
  refine z_istore_n d_M_holds_10 (zlt rfl) ?_
  have hTn := zit_inv (f := fun n z => tH1 X n z) (I := fun _ z => tsm [42] X z.2) (N := 6) (x0 := (true, X)) tsm_rf (fun k z _ h => tsm_tr h (orA_tsm (by decide)))
  refine zlp (Gh := fun (kz : Nat) (z : Bool × zSt) => zG (zcx l E b_M_holds "PointsToRoundsModel" 5 ((some .boolean)) false rm_M_holds (tp E A X) sz (zPi (bI (tHolds X).1) (tp E A (tHolds X).2))) 0 0 11 [some (.ref (A 44)), some (.int (bI (z.1))), some (.int (nI (cn X 37 - 1))), some (.int (nI (kz))), none] [] (tp E A z.2)) (f := fun n z => tH1 X n z) (N := 6) (x0 := (true, X)) ?_ ?_
  rotate_left
  · intro n hn ihn
    have hYn := hTn n (by omega)
    generalize zit _ n _ = zn at ihn hYn ⊢
    obtain ⟨gn, Yn⟩ := zn
    show zG (zcx l E b_M_holds "PointsToRoundsModel" 5 ((some .boolean)) false rm_M_holds (tp E A X) sz (zPi (bI (tHolds X).1) (tp E A (tHolds X).2))) 0 0 11 [some (.ref (A 44)), some (.int (bI (gn))), some (.int (nI (cn X 37 - 1))), some (.int (nI (n))), none] [] (tp E A Yn)
    try dsimp only at ihn hYn
    refine z_iload_n d_M_holds_11 rfl ?_
    refine z_bipush d_M_holds_12 bp_6 ?_
    refine z_icmp_ge (tgt := 113) d_M_holds_14 (by decide) (fun c14 => absurd c14 (nI_ge hn (by omega))) (fun c14 => ?_)
    have c14n := (not_congr (nI_leI (by omega) (by omega))).mp c14
    refine z_aload_n d_M_holds_17 rfl ?_
    refine z_get fa_M_103 d_M_holds_18 (tp_o hA) rfl ?_
    refine z_bipush d_M_holds_21 bp_6 ?_
    refine z_iload_n d_M_holds_23 rfl ?_
    refine z_imul d_M_holds_24 ?_
    refine z_top (pk_mul (6) (cn X 37 - 1)) ?_
    refine z_iload_n d_M_holds_25 rfl ?_
    refine z_iadd d_M_holds_26 ?_
    refine z_top (nI_add (6 * (cn X 37 - 1)) (n)) ?_
    refine z_iald (6 * (cn X 37 - 1) + n) d_M_holds_27 (tp_a hA 41 rfl) rfl (show 6 * (cn X 37 - 1) + n < 60 from by omega) (by decide) ?_
    refine z_top (congrFun (hYn 41 (by decide)) (6 * (cn X 37 - 1) + n)) ?_
    refine z_istore d_M_holds_28 (zlt rfl) ?_
    rcases rfn (cn X 37 - 1) (by omega) n hn with eq | ⟨oj, hoj, eq⟩
    · rw [eq]
      refine z_iload_n d_M_holds_30 rfl ?_
      suffices J31 : zG (zcx l E b_M_holds "PointsToRoundsModel" 5 ((some .boolean)) false rm_M_holds (tp E A X) sz (zPi (bI (tHolds X).1) (tp E A (tHolds X).2))) 0 0 69 [some (.ref (A 44)), some (.int (bI (gn))), some (.int (nI (cn X 37 - 1))), some (.int (nI (n))), some (.int (-1))] [.int (bI (gn && inS X (-1) (X 20 (126 * (ne X 38 (cn X 37 - 1)) + 6 * (ne X 39 (cn X 37 - 1)) + n))))] (tp E A Yn) by
        refine z_if_eq (tgt := 68) d_M_holds_31 (by decide) (fun c31 => ?_) (fun c31 => ?_)
        · have c31n := bI_e.mp c31
          refine z_iconst d_M_holds_68 ic_0 ?_
          exact z_top (x := nI 0) (y := bI (gn && inS X (-1) (X 20 (126 * (ne X 38 (cn X 37 - 1)) + 6 * (ne X 39 (cn X 37 - 1)) + n)))) (by rw [show (gn && inS X (-1) (X 20 (126 * (ne X 38 (cn X 37 - 1)) + 6 * (ne X 39 (cn X 37 - 1)) + n))) = false from by simp [*]]; rfl) J31
        · have c31n := bI_n.mp c31
          refine z_aload_n d_M_holds_34 rfl ?_
          refine z_iload d_M_holds_35 rfl ?_
          refine z_aload_n d_M_holds_37 rfl ?_
          refine z_get fa_M_49 d_M_holds_38 (tp_o hA) rfl ?_
          refine z_aload_n d_M_holds_41 rfl ?_
          refine z_get fa_M_94 d_M_holds_42 (tp_o hA) rfl ?_
          refine z_iload_n d_M_holds_45 rfl ?_
          refine z_iald (cn X 37 - 1) d_M_holds_46 (tp_a hA 38 rfl) rfl (show cn X 37 - 1 < 10 from by omega) (by decide) ?_
          refine z_top ((congrFun (hYn 38 (by decide)) (cn X 37 - 1)).trans rm1) ?_
          refine z_aload_n d_M_holds_47 rfl ?_
          refine z_get fa_M_97 d_M_holds_48 (tp_o hA) rfl ?_
          refine z_iload_n d_M_holds_51 rfl ?_
          refine z_iald (cn X 37 - 1) d_M_holds_52 (tp_a hA 39 rfl) rfl (show cn X 37 - 1 < 10 from by omega) (by decide) ?_
          refine z_top ((congrFun (hYn 39 (by decide)) (cn X 37 - 1)).trans rc1) ?_
          refine z_iload_n d_M_holds_53 rfl ?_
          refine z_cSi (c_M_nameAt l E _ (ne X 38 (cn X 37 - 1)) (ne X 39 (cn X 37 - 1)) (n)) cb_M_nameAt cs_M_nameAt ln_M_166 rfl rfl (zlq rfl) rfl (zlq rfl) (zlq rfl) d_M_holds_54 ?_
          refine z_iald (126 * (ne X 38 (cn X 37 - 1)) + 6 * (ne X 39 (cn X 37 - 1)) + n) d_M_holds_57 (tp_a hA 20 rfl) rfl (show 126 * (ne X 38 (cn X 37 - 1)) + 6 * (ne X 39 (cn X 37 - 1)) + n < 1260 from by omega) (by decide) ?_
          refine z_top (congrFun (hYn 20 (by decide)) (126 * (ne X 38 (cn X 37 - 1)) + 6 * (ne X 39 (cn X 37 - 1)) + n)) ?_
          refine z_cVi (c_M_isInY l E hA (X := X) (hYn 33 (by decide)) (cn X 32) (by omega) (-1) (Or.inl rfl) (X 20 (126 * (ne X 38 (cn X 37 - 1)) + 6 * (ne X 39 (cn X 37 - 1)) + n))) cb_M_isIn ci_M_isIn ln_M_241 (tp_o hA) rfl rfl (zlq rfl) rfl (zlq rfl) (zlq rfl) d_M_holds_58 ?_
          refine z_if_eq (tgt := 68) d_M_holds_61 (by decide) (fun c61 => ?_) (fun c61 => ?_)
          · have c61n := bI_e.mp c61
            refine z_iconst d_M_holds_68 ic_0 ?_
            exact z_top (x := nI 0) (y := bI (gn && inS X (-1) (X 20 (126 * (ne X 38 (cn X 37 - 1)) + 6 * (ne X 39 (cn X 37 - 1)) + n)))) (by rw [show (gn && inS X (-1) (X 20 (126 * (ne X 38 (cn X 37 - 1)) + 6 * (ne X 39 (cn X 37 - 1)) + n))) = false from by simp [*]]; rfl) J31
          · have c61n := bI_n.mp c61
            refine z_iconst d_M_holds_64 ic_1 ?_
            refine z_goto (tgt := 69) d_M_holds_65 (by decide) ?_
            exact z_top (x := nI 1) (y := bI (gn && inS X (-1) (X 20 (126 * (ne X 38 (cn X 37 - 1)) + 6 * (ne X 39 (cn X 37 - 1)) + n)))) (by rw [show (gn && inS X (-1) (X 20 (126 * (ne X 38 (cn X 37 - 1)) + 6 * (ne X 39 (cn X 37 - 1)) + n))) = true from by simp [*]]; rfl) J31
      refine z_istore_n d_M_holds_69 (zlt rfl) ?_
      refine z_aload_n d_M_holds_70 rfl ?_
      refine z_get fa_M_106 d_M_holds_71 (tp_o hA) rfl ?_
      refine z_bipush d_M_holds_74 bp_6 ?_
      refine z_aload_n d_M_holds_76 rfl ?_
      refine z_get fa_M_94 d_M_holds_77 (tp_o hA) rfl ?_
      refine z_iload_n d_M_holds_80 rfl ?_
      refine z_iald (cn X 37 - 1) d_M_holds_81 (tp_a hA 38 rfl) rfl (show cn X 37 - 1 < 10 from by omega) (by decide) ?_
      refine z_top ((congrFun (hYn 38 (by decide)) (cn X 37 - 1)).trans rm1) ?_
      refine z_imul d_M_holds_82 ?_
      refine z_top (pk_mul (6) (ne X 38 (cn X 37 - 1))) ?_
      refine z_iload_n d_M_holds_83 rfl ?_
      refine z_iadd d_M_holds_84 ?_
      refine z_top (nI_add (6 * (ne X 38 (cn X 37 - 1))) (n)) ?_
      refine z_dup2 d_M_holds_85 rfl rfl ?_
      refine z_iald (6 * (ne X 38 (cn X 37 - 1)) + n) d_M_holds_86 (tp_a hA 42 rfl) rfl (show 6 * (ne X 38 (cn X 37 - 1)) + n < 60 from by omega) (by decide) ?_
      refine z_iload d_M_holds_87 rfl ?_
      refine z_if_ge (tgt := 96) d_M_holds_89 (by decide) (fun q => absurd q zneg2) (fun _ => ?_)
      refine z_iconst d_M_holds_92 ic_0 ?_
      refine z_goto (tgt := 105) d_M_holds_93 (by decide) ?_
      refine z_ior d_M_holds_105 ?_
      refine t_ast (kf := 42) (j := 6 * (ne X 38 (cn X 37 - 1)) + n) d_M_holds_106 hA rfl rfl (show 6 * (ne X 38 (cn X 37 - 1)) + n < 60 from by omega) (by decide) ?_
      refine z_iinc (v := nI (n + 1)) d_M_holds_107 (zlt rfl) rfl (zinc _) ?_
      refine z_goto (tgt := 11) d_M_holds_110 (by decide) ?_
      refine z_fl 4 ?_
      have e2 : tH1 X n (gn, Yn) = (gn && inS X (-1) (X 20 (126 * (ne X 38 (cn X 37 - 1)) + 6 * (ne X 39 (cn X 37 - 1)) + n)), (va_up Yn 42 (upd (Yn 42) (6 * (ne X 38 (cn X 37 - 1)) + n) ((Yn 42 (6 * (ne X 38 (cn X 37 - 1)) + n) ||| nI 0))))) := by
        unfold tH1
        rw [eq, if_pos zneg]
        rfl
      rw [e2] at ihn
      exact ihn
    · have hro := (ros oj hoj).2
      rw [eq]
      refine z_iload_n d_M_holds_30 rfl ?_
      suffices J31 : zG (zcx l E b_M_holds "PointsToRoundsModel" 5 ((some .boolean)) false rm_M_holds (tp E A X) sz (zPi (bI (tHolds X).1) (tp E A (tHolds X).2))) 0 0 69 [some (.ref (A 44)), some (.int (bI (gn))), some (.int (nI (cn X 37 - 1))), some (.int (nI (n))), some (.int (nI (oj)))] [.int (bI (gn && inS X (nI (oj)) (X 20 (126 * (ne X 38 (cn X 37 - 1)) + 6 * (ne X 39 (cn X 37 - 1)) + n))))] (tp E A Yn) by
        refine z_if_eq (tgt := 68) d_M_holds_31 (by decide) (fun c31 => ?_) (fun c31 => ?_)
        · have c31n := bI_e.mp c31
          refine z_iconst d_M_holds_68 ic_0 ?_
          exact z_top (x := nI 0) (y := bI (gn && inS X (nI (oj)) (X 20 (126 * (ne X 38 (cn X 37 - 1)) + 6 * (ne X 39 (cn X 37 - 1)) + n)))) (by rw [show (gn && inS X (nI (oj)) (X 20 (126 * (ne X 38 (cn X 37 - 1)) + 6 * (ne X 39 (cn X 37 - 1)) + n))) = false from by simp [*]]; rfl) J31
        · have c31n := bI_n.mp c31
          refine z_aload_n d_M_holds_34 rfl ?_
          refine z_iload d_M_holds_35 rfl ?_
          refine z_aload_n d_M_holds_37 rfl ?_
          refine z_get fa_M_49 d_M_holds_38 (tp_o hA) rfl ?_
          refine z_aload_n d_M_holds_41 rfl ?_
          refine z_get fa_M_94 d_M_holds_42 (tp_o hA) rfl ?_
          refine z_iload_n d_M_holds_45 rfl ?_
          refine z_iald (cn X 37 - 1) d_M_holds_46 (tp_a hA 38 rfl) rfl (show cn X 37 - 1 < 10 from by omega) (by decide) ?_
          refine z_top ((congrFun (hYn 38 (by decide)) (cn X 37 - 1)).trans rm1) ?_
          refine z_aload_n d_M_holds_47 rfl ?_
          refine z_get fa_M_97 d_M_holds_48 (tp_o hA) rfl ?_
          refine z_iload_n d_M_holds_51 rfl ?_
          refine z_iald (cn X 37 - 1) d_M_holds_52 (tp_a hA 39 rfl) rfl (show cn X 37 - 1 < 10 from by omega) (by decide) ?_
          refine z_top ((congrFun (hYn 39 (by decide)) (cn X 37 - 1)).trans rc1) ?_
          refine z_iload_n d_M_holds_53 rfl ?_
          refine z_cSi (c_M_nameAt l E _ (ne X 38 (cn X 37 - 1)) (ne X 39 (cn X 37 - 1)) (n)) cb_M_nameAt cs_M_nameAt ln_M_166 rfl rfl (zlq rfl) rfl (zlq rfl) (zlq rfl) d_M_holds_54 ?_
          refine z_iald (126 * (ne X 38 (cn X 37 - 1)) + 6 * (ne X 39 (cn X 37 - 1)) + n) d_M_holds_57 (tp_a hA 20 rfl) rfl (show 126 * (ne X 38 (cn X 37 - 1)) + 6 * (ne X 39 (cn X 37 - 1)) + n < 1260 from by omega) (by decide) ?_
          refine z_top (congrFun (hYn 20 (by decide)) (126 * (ne X 38 (cn X 37 - 1)) + 6 * (ne X 39 (cn X 37 - 1)) + n)) ?_
          refine z_cVi (c_M_isInY l E hA (X := X) (hYn 33 (by decide)) (cn X 32) (by omega) (nI (oj)) (Or.inr ⟨oj, hoj, rfl⟩) (X 20 (126 * (ne X 38 (cn X 37 - 1)) + 6 * (ne X 39 (cn X 37 - 1)) + n))) cb_M_isIn ci_M_isIn ln_M_241 (tp_o hA) rfl rfl (zlq rfl) rfl (zlq rfl) (zlq rfl) d_M_holds_58 ?_
          refine z_if_eq (tgt := 68) d_M_holds_61 (by decide) (fun c61 => ?_) (fun c61 => ?_)
          · have c61n := bI_e.mp c61
            refine z_iconst d_M_holds_68 ic_0 ?_
            exact z_top (x := nI 0) (y := bI (gn && inS X (nI (oj)) (X 20 (126 * (ne X 38 (cn X 37 - 1)) + 6 * (ne X 39 (cn X 37 - 1)) + n)))) (by rw [show (gn && inS X (nI (oj)) (X 20 (126 * (ne X 38 (cn X 37 - 1)) + 6 * (ne X 39 (cn X 37 - 1)) + n))) = false from by simp [*]]; rfl) J31
          · have c61n := bI_n.mp c61
            refine z_iconst d_M_holds_64 ic_1 ?_
            refine z_goto (tgt := 69) d_M_holds_65 (by decide) ?_
            exact z_top (x := nI 1) (y := bI (gn && inS X (nI (oj)) (X 20 (126 * (ne X 38 (cn X 37 - 1)) + 6 * (ne X 39 (cn X 37 - 1)) + n)))) (by rw [show (gn && inS X (nI (oj)) (X 20 (126 * (ne X 38 (cn X 37 - 1)) + 6 * (ne X 39 (cn X 37 - 1)) + n))) = true from by simp [*]]; rfl) J31
      refine z_istore_n d_M_holds_69 (zlt rfl) ?_
      refine z_aload_n d_M_holds_70 rfl ?_
      refine z_get fa_M_106 d_M_holds_71 (tp_o hA) rfl ?_
      refine z_bipush d_M_holds_74 bp_6 ?_
      refine z_aload_n d_M_holds_76 rfl ?_
      refine z_get fa_M_94 d_M_holds_77 (tp_o hA) rfl ?_
      refine z_iload_n d_M_holds_80 rfl ?_
      refine z_iald (cn X 37 - 1) d_M_holds_81 (tp_a hA 38 rfl) rfl (show cn X 37 - 1 < 10 from by omega) (by decide) ?_
      refine z_top ((congrFun (hYn 38 (by decide)) (cn X 37 - 1)).trans rm1) ?_
      refine z_imul d_M_holds_82 ?_
      refine z_top (pk_mul (6) (ne X 38 (cn X 37 - 1))) ?_
      refine z_iload_n d_M_holds_83 rfl ?_
      refine z_iadd d_M_holds_84 ?_
      refine z_top (nI_add (6 * (ne X 38 (cn X 37 - 1))) (n)) ?_
      refine z_dup2 d_M_holds_85 rfl rfl ?_
      refine z_iald (6 * (ne X 38 (cn X 37 - 1)) + n) d_M_holds_86 (tp_a hA 42 rfl) rfl (show 6 * (ne X 38 (cn X 37 - 1)) + n < 60 from by omega) (by decide) ?_
      refine z_iload d_M_holds_87 rfl ?_
      refine z_if_ge (tgt := 96) d_M_holds_89 (by decide) (fun _ => ?_) (fun q => absurd (nI_pos' (by omega)) q)
      refine z_iconst d_M_holds_96 ic_1 ?_
      refine z_aload_n d_M_holds_97 rfl ?_
      refine z_get fa_M_82 d_M_holds_98 (tp_o hA) rfl ?_
      refine z_iload d_M_holds_101 rfl ?_
      refine z_iald (oj) d_M_holds_103 (tp_a hA 33 rfl) rfl (show oj < 30 from by omega) (by decide) ?_
      refine z_top (congrFun (hYn 33 (by decide)) (oj)) ?_
      refine z_ishl d_M_holds_104 ?_
      refine z_ior d_M_holds_105 ?_
      refine t_ast (kf := 42) (j := 6 * (ne X 38 (cn X 37 - 1)) + n) d_M_holds_106 hA rfl rfl (show 6 * (ne X 38 (cn X 37 - 1)) + n < 60 from by omega) (by decide) ?_
      refine z_iinc (v := nI (n + 1)) d_M_holds_107 (zlt rfl) rfl (zinc _) ?_
      refine z_goto (tgt := 11) d_M_holds_110 (by decide) ?_
      refine z_fl 4 ?_
      have e2 : tH1 X n (gn, Yn) = (gn && inS X (nI (oj)) (X 20 (126 * (ne X 38 (cn X 37 - 1)) + 6 * (ne X 39 (cn X 37 - 1)) + n)), (va_up Yn 42 (upd (Yn 42) (6 * (ne X 38 (cn X 37 - 1)) + n) ((Yn 42 (6 * (ne X 38 (cn X 37 - 1)) + n) ||| (nI 1 <<< (X 33 (oj) &&& 31))))))) := by
        unfold tH1
        rw [eq, if_neg (nI_pos (by omega)), nI_clamp (by omega)]
        rfl
      rw [e2] at ihn
      exact ihn
  have hH : tsm [42] X (tHa X).2 := tHa_tsm
  show zG (zcx l E b_M_holds "PointsToRoundsModel" 5 ((some .boolean)) false rm_M_holds (tp E A X) sz (zPi (bI (tHolds X).1) (tp E A (tHolds X).2))) 0 0 11 [some (.ref (A 44)), some (.int (bI ((tHa X).1))), some (.int (nI (cn X 37 - 1))), some (.int (nI 6)), none] [] (tp E A (tHa X).2)
  refine z_iload_n d_M_holds_11 rfl ?_
  refine z_bipush d_M_holds_12 bp_6 ?_
  refine z_icmp_ge (tgt := 113) d_M_holds_14 (by decide) (fun c14 => ?_) (fun c14 => absurd (by decide +kernel) c14)
  refine z_iconst d_M_holds_113 ic_0 ?_
  refine z_istore_n d_M_holds_114 (zlt rfl) ?_
  refine zlp (Gh := fun (kz : Nat) (z : Bool) => zG (zcx l E b_M_holds "PointsToRoundsModel" 5 ((some .boolean)) false rm_M_holds (tp E A X) sz (zPi (bI (tHolds X).1) (tp E A (tHolds X).2))) 0 0 115 [some (.ref (A 44)), some (.int (bI (z))), some (.int (nI (cn X 37 - 1))), some (.int (nI (kz))), none] [] (tp E A (tHa X).2)) (f := fun s z => z && inS X (X 36 (s)) (X 26 (s))) (N := 4) (x0 := (tHa X).1) ?_ ?_
  rotate_left
  · intro s hs ihs
    generalize zit _ s _ = zs at ihs ⊢
    show zG (zcx l E b_M_holds "PointsToRoundsModel" 5 ((some .boolean)) false rm_M_holds (tp E A X) sz (zPi (bI (tHolds X).1) (tp E A (tHolds X).2))) 0 0 115 [some (.ref (A 44)), some (.int (bI (zs))), some (.int (nI (cn X 37 - 1))), some (.int (nI (s))), none] [] (tp E A (tHa X).2)
    try dsimp only at ihs
    refine z_iload_n d_M_holds_115 rfl ?_
    refine z_iconst d_M_holds_116 ic_4 ?_
    refine z_icmp_ge (tgt := 155) d_M_holds_117 (by decide) (fun c117 => absurd c117 (nI_ge hs (by omega))) (fun c117 => ?_)
    have c117n := (not_congr (nI_leI (by omega) (by omega))).mp c117
    refine z_iload_n d_M_holds_120 rfl ?_
    suffices J121 : zG (zcx l E b_M_holds "PointsToRoundsModel" 5 ((some .boolean)) false rm_M_holds (tp E A X) sz (zPi (bI (tHolds X).1) (tp E A (tHolds X).2))) 0 0 148 [some (.ref (A 44)), some (.int (bI (zs))), some (.int (nI (cn X 37 - 1))), some (.int (nI (s))), none] [.int (bI (zs && inS X (X 36 (s)) (X 26 (s))))] (tp E A (tHa X).2) by
      refine z_if_eq (tgt := 147) d_M_holds_121 (by decide) (fun c121 => ?_) (fun c121 => ?_)
      · have c121n := bI_e.mp c121
        refine z_iconst d_M_holds_147 ic_0 ?_
        exact z_top (x := nI 0) (y := bI (zs && inS X (X 36 (s)) (X 26 (s)))) (by rw [show (zs && inS X (X 36 (s)) (X 26 (s))) = false from by simp [*]]; rfl) J121
      · have c121n := bI_n.mp c121
        refine z_aload_n d_M_holds_124 rfl ?_
        refine z_aload_n d_M_holds_125 rfl ?_
        refine z_get fa_M_91 d_M_holds_126 (tp_o hA) rfl ?_
        refine z_iload_n d_M_holds_129 rfl ?_
        refine z_iald (s) d_M_holds_130 (tp_a hA 36 rfl) rfl (show s < 4 from by omega) (by decide) ?_
        refine z_top (congrFun (hH 36 (by decide)) (s)) ?_
        refine z_aload_n d_M_holds_131 rfl ?_
        refine z_get fa_M_67 d_M_holds_132 (tp_o hA) rfl ?_
        refine z_iload_n d_M_holds_135 rfl ?_
        refine z_iald (s) d_M_holds_136 (tp_a hA 26 rfl) rfl (show s < 4 from by omega) (by decide) ?_
        refine z_top (congrFun (hH 26 (by decide)) (s)) ?_
        refine z_cVi (c_M_isInY l E hA (X := X) (hH 33 (by decide)) (cn X 32) (by omega) (X 36 (s)) (rst s hs) (X 26 (s))) cb_M_isIn ci_M_isIn ln_M_241 (tp_o hA) rfl rfl (zlq rfl) rfl (zlq rfl) (zlq rfl) d_M_holds_137 ?_
        refine z_if_eq (tgt := 147) d_M_holds_140 (by decide) (fun c140 => ?_) (fun c140 => ?_)
        · have c140n := bI_e.mp c140
          refine z_iconst d_M_holds_147 ic_0 ?_
          exact z_top (x := nI 0) (y := bI (zs && inS X (X 36 (s)) (X 26 (s)))) (by rw [show (zs && inS X (X 36 (s)) (X 26 (s))) = false from by simp [*]]; rfl) J121
        · have c140n := bI_n.mp c140
          refine z_iconst d_M_holds_143 ic_1 ?_
          refine z_goto (tgt := 148) d_M_holds_144 (by decide) ?_
          exact z_top (x := nI 1) (y := bI (zs && inS X (X 36 (s)) (X 26 (s)))) (by rw [show (zs && inS X (X 36 (s)) (X 26 (s))) = true from by simp [*]]; rfl) J121
    refine z_istore_n d_M_holds_148 (zlt rfl) ?_
    refine z_iinc (v := nI (s + 1)) d_M_holds_149 (zlt rfl) rfl (zinc _) ?_
    refine z_goto (tgt := 115) d_M_holds_152 (by decide) ?_
    exact ihs
  show zG (zcx l E b_M_holds "PointsToRoundsModel" 5 ((some .boolean)) false rm_M_holds (tp E A X) sz (zPi (bI (tHolds X).1) (tp E A (tHolds X).2))) 0 0 115 [some (.ref (A 44)), some (.int (bI (zit (fun s z => z && inS X (X 36 (s)) (X 26 (s))) (4) ((tHa X).1)))), some (.int (nI (cn X 37 - 1))), some (.int (nI 4)), none] [] (tp E A (tHa X).2)
  refine z_iload_n d_M_holds_115 rfl ?_
  refine z_iconst d_M_holds_116 ic_4 ?_
  refine z_icmp_ge (tgt := 155) d_M_holds_117 (by decide) (fun c117 => ?_) (fun c117 => absurd (by decide +kernel) c117)
  refine z_iconst d_M_holds_155 ic_0 ?_
  refine z_istore_n d_M_holds_156 (zlt rfl) ?_
  refine zlp (Gh := fun (kz : Nat) (z : Bool) => zG (zcx l E b_M_holds "PointsToRoundsModel" 5 ((some .boolean)) false rm_M_holds (tp E A X) sz (zPi (bI (tHolds X).1) (tp E A (tHolds X).2))) 0 0 157 [some (.ref (A 44)), some (.int (bI (z))), some (.int (nI (cn X 37 - 1))), some (.int (nI (kz))), none] [] (tp E A (tHa X).2)) (f := fun o z => tHc1 X o z) (N := cn X 32) (x0 := zit (fun s z => z && inS X (X 36 (s)) (X 26 (s))) (4) ((tHa X).1)) ?_ ?_
  rotate_left
  · intro o ho iho
    generalize zit _ o _ = zo at iho ⊢
    show zG (zcx l E b_M_holds "PointsToRoundsModel" 5 ((some .boolean)) false rm_M_holds (tp E A X) sz (zPi (bI (tHolds X).1) (tp E A (tHolds X).2))) 0 0 157 [some (.ref (A 44)), some (.int (bI (zo))), some (.int (nI (cn X 37 - 1))), some (.int (nI (o))), none] [] (tp E A (tHa X).2)
    try dsimp only at iho
    refine z_iload_n d_M_holds_157 rfl ?_
    refine z_aload_n d_M_holds_158 rfl ?_
    refine z_get fa_M_219 d_M_holds_159 (tp_o hA) rfl ?_
    refine z_top ((congrFun (hH 32 (by decide)) 0).trans r32) ?_
    refine z_icmp_ge (tgt := 269) d_M_holds_162 (by decide) (fun c162 => absurd c162 (nI_ge ho (by omega))) (fun c162 => ?_)
    have c162n := (not_congr (nI_leI (by omega) (by omega))).mp c162
    refine z_iload_n d_M_holds_165 rfl ?_
    suffices J166 : zG (zcx l E b_M_holds "PointsToRoundsModel" 5 ((some .boolean)) false rm_M_holds (tp E A X) sz (zPi (bI (tHolds X).1) (tp E A (tHolds X).2))) 0 0 198 [some (.ref (A 44)), some (.int (bI (zo))), some (.int (nI (cn X 37 - 1))), some (.int (nI (o))), none] [.int (bI (zo && inS X (X 35 (o)) (X 24 (ne X 33 o))))] (tp E A (tHa X).2) by
      refine z_if_eq (tgt := 197) d_M_holds_166 (by decide) (fun c166 => ?_) (fun c166 => ?_)
      · have c166n := bI_e.mp c166
        refine z_iconst d_M_holds_197 ic_0 ?_
        exact z_top (x := nI 0) (y := bI (zo && inS X (X 35 (o)) (X 24 (ne X 33 o)))) (by rw [show (zo && inS X (X 35 (o)) (X 24 (ne X 33 o))) = false from by simp [*]]; rfl) J166
      · have c166n := bI_n.mp c166
        refine z_aload_n d_M_holds_169 rfl ?_
        refine z_aload_n d_M_holds_170 rfl ?_
        refine z_get fa_M_88 d_M_holds_171 (tp_o hA) rfl ?_
        refine z_iload_n d_M_holds_174 rfl ?_
        refine z_iald (o) d_M_holds_175 (tp_a hA 35 rfl) rfl (show o < 30 from by omega) (by decide) ?_
        refine z_top (congrFun (hH 35 (by decide)) (o)) ?_
        refine z_aload_n d_M_holds_176 rfl ?_
        refine z_get fa_M_61 d_M_holds_177 (tp_o hA) rfl ?_
        refine z_aload_n d_M_holds_180 rfl ?_
        refine z_get fa_M_82 d_M_holds_181 (tp_o hA) rfl ?_
        refine z_iload_n d_M_holds_184 rfl ?_
        refine z_iald (o) d_M_holds_185 (tp_a hA 33 rfl) rfl (show o < 30 from by omega) (by decide) ?_
        refine z_top ((congrFun (hH 33 (by decide)) (o)).trans (ros o ho).1) ?_
        refine z_iald (ne X 33 o) d_M_holds_186 (tp_a hA 24 rfl) rfl (show ne X 33 o < 20 from Nat.lt_of_lt_of_le (ros o ho).2 b16) (by decide) ?_
        refine z_top (congrFun (hH 24 (by decide)) (ne X 33 o)) ?_
        refine z_cVi (c_M_isInY l E hA (X := X) (hH 33 (by decide)) (cn X 32) (by omega) (X 35 (o)) (roe o ho) (X 24 (ne X 33 o))) cb_M_isIn ci_M_isIn ln_M_241 (tp_o hA) rfl rfl (zlq rfl) rfl (zlq rfl) (zlq rfl) d_M_holds_187 ?_
        refine z_if_eq (tgt := 197) d_M_holds_190 (by decide) (fun c190 => ?_) (fun c190 => ?_)
        · have c190n := bI_e.mp c190
          refine z_iconst d_M_holds_197 ic_0 ?_
          exact z_top (x := nI 0) (y := bI (zo && inS X (X 35 (o)) (X 24 (ne X 33 o)))) (by rw [show (zo && inS X (X 35 (o)) (X 24 (ne X 33 o))) = false from by simp [*]]; rfl) J166
        · have c190n := bI_n.mp c190
          refine z_iconst d_M_holds_193 ic_1 ?_
          refine z_goto (tgt := 198) d_M_holds_194 (by decide) ?_
          exact z_top (x := nI 1) (y := bI (zo && inS X (X 35 (o)) (X 24 (ne X 33 o)))) (by rw [show (zo && inS X (X 35 (o)) (X 24 (ne X 33 o))) = true from by simp [*]]; rfl) J166
    refine z_istore_n d_M_holds_198 (zlt rfl) ?_
    refine z_iconst d_M_holds_199 ic_0 ?_
    refine z_istore d_M_holds_200 (zlt rfl) ?_
    have hro := (ros o ho).2
    refine zlp (Gh := fun (kz : Nat) (z : Bool) => zG (zcx l E b_M_holds "PointsToRoundsModel" 5 ((some .boolean)) false rm_M_holds (tp E A X) sz (zPi (bI (tHolds X).1) (tp E A (tHolds X).2))) 0 0 202 [some (.ref (A 44)), some (.int (bI (z))), some (.int (nI (cn X 37 - 1))), some (.int (nI (o))), some (.int (nI (kz)))] [] (tp E A (tHa X).2)) (f := fun f z => z && inS X (X 34 (8 * o + f)) (X 22 (8 * (ne X 33 o) + f))) (N := cn X 2) (x0 := zo && inS X (X 35 (o)) (X 24 (ne X 33 o))) ?_ ?_
    rotate_left
    · intro f hf ihf
      generalize zit _ f _ = zf at ihf ⊢
      show zG (zcx l E b_M_holds "PointsToRoundsModel" 5 ((some .boolean)) false rm_M_holds (tp E A X) sz (zPi (bI (tHolds X).1) (tp E A (tHolds X).2))) 0 0 202 [some (.ref (A 44)), some (.int (bI (zf))), some (.int (nI (cn X 37 - 1))), some (.int (nI (o))), some (.int (nI (f)))] [] (tp E A (tHa X).2)
      try dsimp only at ihf
      refine z_iload d_M_holds_202 rfl ?_
      refine z_aload_n d_M_holds_204 rfl ?_
      refine z_get fa_M_113 d_M_holds_205 (tp_o hA) rfl ?_
      refine z_top ((congrFun (hH 2 (by decide)) 0).trans h2) ?_
      refine z_icmp_ge (tgt := 263) d_M_holds_208 (by decide) (fun c208 => absurd c208 (nI_ge hf (by omega))) (fun c208 => ?_)
      have c208n := (not_congr (nI_leI (by omega) (by omega))).mp c208
      refine z_iload_n d_M_holds_211 rfl ?_
      suffices J212 : zG (zcx l E b_M_holds "PointsToRoundsModel" 5 ((some .boolean)) false rm_M_holds (tp E A X) sz (zPi (bI (tHolds X).1) (tp E A (tHolds X).2))) 0 0 256 [some (.ref (A 44)), some (.int (bI (zf))), some (.int (nI (cn X 37 - 1))), some (.int (nI (o))), some (.int (nI (f)))] [.int (bI (zf && inS X (X 34 (8 * o + f)) (X 22 (8 * (ne X 33 o) + f))))] (tp E A (tHa X).2) by
        refine z_if_eq (tgt := 255) d_M_holds_212 (by decide) (fun c212 => ?_) (fun c212 => ?_)
        · have c212n := bI_e.mp c212
          refine z_iconst d_M_holds_255 ic_0 ?_
          exact z_top (x := nI 0) (y := bI (zf && inS X (X 34 (8 * o + f)) (X 22 (8 * (ne X 33 o) + f)))) (by rw [show (zf && inS X (X 34 (8 * o + f)) (X 22 (8 * (ne X 33 o) + f))) = false from by simp [*]]; rfl) J212
        · have c212n := bI_n.mp c212
          refine z_aload_n d_M_holds_215 rfl ?_
          refine z_aload_n d_M_holds_216 rfl ?_
          refine z_get fa_M_85 d_M_holds_217 (tp_o hA) rfl ?_
          refine z_bipush d_M_holds_220 bp_8 ?_
          refine z_iload_n d_M_holds_222 rfl ?_
          refine z_imul d_M_holds_223 ?_
          refine z_top (pk_mul (8) (o)) ?_
          refine z_iload d_M_holds_224 rfl ?_
          refine z_iadd d_M_holds_226 ?_
          refine z_top (nI_add (8 * o) (f)) ?_
          refine z_iald (8 * o + f) d_M_holds_227 (tp_a hA 34 rfl) rfl (show 8 * o + f < 240 from by omega) (by decide) ?_
          refine z_top (congrFun (hH 34 (by decide)) (8 * o + f)) ?_
          refine z_aload_n d_M_holds_228 rfl ?_
          refine z_get fa_M_55 d_M_holds_229 (tp_o hA) rfl ?_
          refine z_bipush d_M_holds_232 bp_8 ?_
          refine z_aload_n d_M_holds_234 rfl ?_
          refine z_get fa_M_82 d_M_holds_235 (tp_o hA) rfl ?_
          refine z_iload_n d_M_holds_238 rfl ?_
          refine z_iald (o) d_M_holds_239 (tp_a hA 33 rfl) rfl (show o < 30 from by omega) (by decide) ?_
          refine z_top ((congrFun (hH 33 (by decide)) (o)).trans (ros o ho).1) ?_
          refine z_imul d_M_holds_240 ?_
          refine z_top (pk_mul (8) (ne X 33 o)) ?_
          refine z_iload d_M_holds_241 rfl ?_
          refine z_iadd d_M_holds_243 ?_
          refine z_top (nI_add (8 * (ne X 33 o)) (f)) ?_
          refine z_iald (8 * (ne X 33 o) + f) d_M_holds_244 (tp_a hA 22 rfl) rfl (show 8 * (ne X 33 o) + f < 160 from by omega) (by decide) ?_
          refine z_top (congrFun (hH 22 (by decide)) (8 * (ne X 33 o) + f)) ?_
          refine z_cVi (c_M_isInY l E hA (X := X) (hH 33 (by decide)) (cn X 32) (by omega) (X 34 (8 * o + f)) (rof o ho f (by omega)) (X 22 (8 * (ne X 33 o) + f))) cb_M_isIn ci_M_isIn ln_M_241 (tp_o hA) rfl rfl (zlq rfl) rfl (zlq rfl) (zlq rfl) d_M_holds_245 ?_
          refine z_if_eq (tgt := 255) d_M_holds_248 (by decide) (fun c248 => ?_) (fun c248 => ?_)
          · have c248n := bI_e.mp c248
            refine z_iconst d_M_holds_255 ic_0 ?_
            exact z_top (x := nI 0) (y := bI (zf && inS X (X 34 (8 * o + f)) (X 22 (8 * (ne X 33 o) + f)))) (by rw [show (zf && inS X (X 34 (8 * o + f)) (X 22 (8 * (ne X 33 o) + f))) = false from by simp [*]]; rfl) J212
          · have c248n := bI_n.mp c248
            refine z_iconst d_M_holds_251 ic_1 ?_
            refine z_goto (tgt := 256) d_M_holds_252 (by decide) ?_
            exact z_top (x := nI 1) (y := bI (zf && inS X (X 34 (8 * o + f)) (X 22 (8 * (ne X 33 o) + f)))) (by rw [show (zf && inS X (X 34 (8 * o + f)) (X 22 (8 * (ne X 33 o) + f))) = true from by simp [*]]; rfl) J212
      refine z_istore_n d_M_holds_256 (zlt rfl) ?_
      refine z_iinc (v := nI (f + 1)) d_M_holds_257 (zlt rfl) rfl (zinc _) ?_
      refine z_goto (tgt := 202) d_M_holds_260 (by decide) ?_
      exact ihf
    show zG (zcx l E b_M_holds "PointsToRoundsModel" 5 ((some .boolean)) false rm_M_holds (tp E A X) sz (zPi (bI (tHolds X).1) (tp E A (tHolds X).2))) 0 0 202 [some (.ref (A 44)), some (.int (bI (zit (fun f z => z && inS X (X 34 (8 * o + f)) (X 22 (8 * (ne X 33 o) + f))) (cn X 2) (zo && inS X (X 35 (o)) (X 24 (ne X 33 o)))))), some (.int (nI (cn X 37 - 1))), some (.int (nI (o))), some (.int (nI (cn X 2)))] [] (tp E A (tHa X).2)
    refine z_iload d_M_holds_202 rfl ?_
    refine z_aload_n d_M_holds_204 rfl ?_
    refine z_get fa_M_113 d_M_holds_205 (tp_o hA) rfl ?_
    refine z_top ((congrFun (hH 2 (by decide)) 0).trans h2) ?_
    refine z_icmp_ge (tgt := 263) d_M_holds_208 (by decide) (fun c208 => ?_) (fun c208 => absurd (nI_le (Nat.le_refl _) (by omega)) c208)
    have c208n := (nI_leI (by omega) (by omega)).mp c208
    refine z_iinc (v := nI (o + 1)) d_M_holds_263 (zlt rfl) rfl (zinc _) ?_
    refine z_goto (tgt := 157) d_M_holds_266 (by decide) ?_
    refine z_fl 4 ?_
    exact iho
  show zG (zcx l E b_M_holds "PointsToRoundsModel" 5 ((some .boolean)) false rm_M_holds (tp E A X) sz (zPi (bI (tHolds X).1) (tp E A (tHolds X).2))) 0 0 157 [some (.ref (A 44)), some (.int (bI (zit (fun o z => tHc1 X o z) (cn X 32) (zit (fun s z => z && inS X (X 36 (s)) (X 26 (s))) (4) ((tHa X).1))))), some (.int (nI (cn X 37 - 1))), some (.int (nI (cn X 32))), none] [] (tp E A (tHa X).2)
  refine z_iload_n d_M_holds_157 rfl ?_
  refine z_aload_n d_M_holds_158 rfl ?_
  refine z_get fa_M_219 d_M_holds_159 (tp_o hA) rfl ?_
  refine z_top ((congrFun (hH 32 (by decide)) 0).trans r32) ?_
  refine z_icmp_ge (tgt := 269) d_M_holds_162 (by decide) (fun c162 => ?_) (fun c162 => absurd (nI_le (Nat.le_refl _) (by omega)) c162)
  have c162n := (nI_leI (by omega) (by omega)).mp c162
  refine z_iload_n d_M_holds_269 rfl ?_
  exact z_zret rfl (bI_z _) d_M_holds_270 (zlq rfl) (zlq rfl) (⟨rfl, rfl⟩)
