/-! the twin: runs -/
def oR (n : Nat) (x : Int32) : Prop := x = -1 ∨ ∃ o : Nat, o < n ∧ x = nI o
def rInv (X : zSt) : Prop :=
  (X 37 0 = nI (cn X 37) ∧ 1 ≤ cn X 37 ∧ cn X 37 ≤ 10) ∧ (X 32 0 = nI (cn X 32) ∧ cn X 32 ≤ 30) ∧
  (∀ j, j < cn X 37 → (X 38 j = nI (ne X 38 j) ∧ ne X 38 j < cn X 4) ∧ (X 39 j = nI (ne X 39 j) ∧ ne X 39 j < 21) ∧ (X 40 j = nI (ne X 40 j) ∧ ne X 40 j < 6)) ∧
  (∀ j, j < cn X 37 → ∀ n, n < 6 → oR (cn X 32) (X 41 (6 * j + n))) ∧
  (∀ o, o < cn X 32 → X 33 o = nI (ne X 33 o) ∧ ne X 33 o < cn X 16) ∧ (∀ o, o < cn X 32 → oR (cn X 32) (X 35 o)) ∧ (∀ o, o < cn X 32 → ∀ f, f < 8 → oR (cn X 32) (X 34 (8 * o + f))) ∧ (∀ s, s < 4 → oR (cn X 32) (X 36 s))
def tOp1 (X : zSt) (m c t : Int32) : zSt := va_up (va_up (va_up X 38 (upd (X 38) (cn X 37) m)) 39 (upd (X 39) (cn X 37) c)) 40 (upd (X 40) (cn X 37) t)
def tOpen (X : zSt) (m c t : Int32) : zSt := va_up (zit (fun k Y => va_up Y 41 (upd (Y 41) (6 * (cn X 37) + k) (-1))) 6 (tOp1 X m c t)) 37 (fun _ => nI (cn X 37 + 1))
def mny (X : zSt) (m : Int32) : Nat := zit (fun i z => if X 8 i = m then z + 1 else z + 0) (cn X 7) 0
def sof (X : zSt) (m : Int32) : Nat → Nat → Nat → Int32
  | 0, _, _ => -1
  | k + 1, i, l => if X 8 i = m then (if nI l = 0 then nI i else sof X m k (i + 1) (l - 1)) else sof X m k (i + 1) l
def cHv (X : zSt) (o : Int32) (f : Nat) : Bool := if o < 0 then false else und X 9 (X 17 (ne X 33 o.toNatClampNeg)) (X 3 f)
def inS (X : zSt) (o s : Int32) : Bool := if o < 0 then true else decide (s >>> (X 33 o.toNatClampNeg &&& 31) &&& nI 1 = nI 1)
def tMk1 (X : zSt) (i : Nat) : zSt := zit (fun k Y => va_up Y 34 (upd (Y 34) (8 * (cn X 32) + k) (-1))) 8 (va_up (va_up X 33 (upd (X 33) (cn X 32) (X 15 i))) 35 (upd (X 35) (cn X 32) (-1)))
def tMake (X : zSt) (i to : Nat) : zSt := if nI (cn X 32) = nI 30 then X else va_up (va_up (tMk1 X i) 41 (upd ((tMk1 X i) 41) to (nI (cn X 32)))) 32 (fun _ => nI (cn X 32 + 1))
def tLeave (X : zSt) : zSt := if nI (cn X 37) = nI 1 then X else va_up (va_up X 37 (fun _ => nI (cn X 37 - 1))) 41 (upd (X 41) (6 * (cn X 37 - 1 - 1) + ne X 40 (cn X 37 - 1)) (X 41 (6 * (cn X 37 - 1) + 5)))
theorem mny_le {X : zSt} {m : Int32} {b : Nat} (h : cn X 7 ≤ b) : mny X m ≤ b := by
  have := zit_inv (f := fun i z => if X 8 i = m then z + 1 else z + 0) (I := fun k z => z ≤ k) (N := cn X 7) (x0 := 0) (Nat.le_refl 0) (fun k z _ hz => by (try dsimp only); split <;> omega) (cn X 7) (Nat.le_refl _)
  unfold mny
  omega
abbrev rm_M_open : Room := { frames := 0, cells := 0, slots := 0, locals := 0 }
set_option maxHeartbeats 4000000 in
set_option maxRecDepth 100000 in
theorem c_M_open (l : Launch) (E : zE) {A : Nat → Nat} (hA : tmI A) (X : zSt) (r37 : X 37 0 = nI (cn X 37)) (hb : cn X 37 < 10) (m c t : Int32) : zM l E y_M_open b_M_open 5 (none) rm_M_open [.ref (A 44), .int m, .int c, .int t] (tp E A X) (zPv (tp E A (tOpen X m c t))) := by
  refine zM_w (by decide +kernel) rfl rfl (fun sz => ?_)
  refine z_aload_n d_M_open_0 rfl ?_
  refine z_get fa_M_94 d_M_open_1 (tp_o hA) rfl ?_
  refine z_aload_n d_M_open_4 rfl ?_
  refine z_get fa_M_222 d_M_open_5 (tp_o hA) rfl ?_
  refine z_top r37 ?_
  refine z_iload_n d_M_open_8 rfl ?_
  refine t_ast (kf := 38) (j := cn X 37) d_M_open_9 hA rfl rfl (show cn X 37 < 10 from by omega) (by decide) ?_
  refine z_aload_n d_M_open_10 rfl ?_
  refine z_get fa_M_97 d_M_open_11 (tp_o hA) rfl ?_
  refine z_aload_n d_M_open_14 rfl ?_
  refine z_get fa_M_222 d_M_open_15 (tp_o hA) rfl ?_
  refine z_top r37 ?_
  refine z_iload_n d_M_open_18 rfl ?_
  refine t_ast (kf := 39) (j := cn X 37) d_M_open_19 hA rfl rfl (show cn X 37 < 10 from by omega) (by decide) ?_
  refine z_aload_n d_M_open_20 rfl ?_
  refine z_get fa_M_100 d_M_open_21 (tp_o hA) rfl ?_
  refine z_aload_n d_M_open_24 rfl ?_
  refine z_get fa_M_222 d_M_open_25 (tp_o hA) rfl ?_
  refine z_top r37 ?_
  refine z_iload_n d_M_open_28 rfl ?_
  refine t_ast (kf := 40) (j := cn X 37) d_M_open_29 hA rfl rfl (show cn X 37 < 10 from by omega) (by decide) ?_
  refine z_iconst d_M_open_30 ic_0 ?_
  refine z_istore d_M_open_31 (zlt rfl) ?_
  have hO : tsm [38, 39, 40, 41] X (tOp1 X m c t) := tsm_tr (tsm_tr (tsm_up (by decide)) (tsm_up (by decide))) (tsm_up (by decide))
  have hTn := zit_inv (f := fun k Y => va_up Y 41 (upd (Y 41) (6 * (cn X 37) + k) (-1))) (I := fun _ Y => tsm [38, 39, 40, 41] X Y) (N := 6) (x0 := (tOp1 X m c t)) (hO) (fun k Y _ h => tsm_tr h (tsm_up (by decide)))
  refine zlp (Gh := fun (kz : Nat) (Z : zSt) => zG (zcx l E b_M_open "PointsToRoundsModel" 5 (none) false rm_M_open (tp E A X) sz (zPv (tp E A (tOpen X m c t)))) 0 0 33 [some (.ref (A 44)), some (.int (m)), some (.int (c)), some (.int (t)), some (.int (nI (kz)))] [] (tp E A Z)) (f := fun k Y => va_up Y 41 (upd (Y 41) (6 * (cn X 37) + k) (-1))) (N := 6) (x0 := (tOp1 X m c t)) ?_ ?_
  rotate_left
  · intro n hn ihn
    have hYn := hTn n (by omega)
    generalize zit _ n _ = Yn at ihn hYn ⊢
    show zG (zcx l E b_M_open "PointsToRoundsModel" 5 (none) false rm_M_open (tp E A X) sz (zPv (tp E A (tOpen X m c t)))) 0 0 33 [some (.ref (A 44)), some (.int (m)), some (.int (c)), some (.int (t)), some (.int (nI (n)))] [] (tp E A Yn)
    try dsimp only at ihn
    refine z_iload d_M_open_33 rfl ?_
    refine z_bipush d_M_open_35 bp_6 ?_
    refine z_icmp_ge (tgt := 62) d_M_open_37 (by decide) (fun c37 => absurd c37 (nI_ge hn (by omega))) (fun c37 => ?_)
    have c37n := (not_congr (nI_leI (by omega) (by omega))).mp c37
    refine z_aload_n d_M_open_40 rfl ?_
    refine z_get fa_M_103 d_M_open_41 (tp_o hA) rfl ?_
    refine z_bipush d_M_open_44 bp_6 ?_
    refine z_aload_n d_M_open_46 rfl ?_
    refine z_get fa_M_222 d_M_open_47 (tp_o hA) rfl ?_
    refine z_top ((congrFun (hYn 37 (by decide)) 0).trans r37) ?_
    refine z_imul d_M_open_50 ?_
    refine z_top (pk_mul (6) (cn X 37)) ?_
    refine z_iload d_M_open_51 rfl ?_
    refine z_iadd d_M_open_53 ?_
    refine z_top (nI_add (6 * (cn X 37)) (n)) ?_
    refine z_iconst (v := -1) d_M_open_54 ic_m1 ?_
    refine t_ast (kf := 41) (j := 6 * (cn X 37) + n) d_M_open_55 hA rfl rfl (show 6 * (cn X 37) + n < 60 from by omega) (by decide) ?_
    refine z_iinc (v := nI (n + 1)) d_M_open_56 (zlt rfl) rfl (zinc _) ?_
    refine z_goto (tgt := 33) d_M_open_59 (by decide) ?_
    exact ihn
  show zG (zcx l E b_M_open "PointsToRoundsModel" 5 (none) false rm_M_open (tp E A X) sz (zPv (tp E A (tOpen X m c t)))) 0 0 33 [some (.ref (A 44)), some (.int (m)), some (.int (c)), some (.int (t)), some (.int (nI 6))] [] (tp E A (zit (fun k Y => va_up Y 41 (upd (Y 41) (6 * (cn X 37) + k) (-1))) (6) (tOp1 X m c t)))
  have hEn := hTn _ (Nat.le_refl _)
  refine z_iload d_M_open_33 rfl ?_
  refine z_bipush d_M_open_35 bp_6 ?_
  refine z_icmp_ge (tgt := 62) d_M_open_37 (by decide) (fun c37 => ?_) (fun c37 => absurd (by decide +kernel) c37)
  refine z_aload_n d_M_open_62 rfl ?_
  refine z_dup d_M_open_63 rfl ?_
  refine z_get fa_M_222 d_M_open_64 (tp_o hA) rfl ?_
  refine z_top ((congrFun (hEn 37 (by decide)) 0).trans r37) ?_
  refine z_iconst d_M_open_67 ic_1 ?_
  refine z_iadd d_M_open_68 ?_
  refine z_top (nI_add (cn X 37) (1)) ?_
  refine t_put fp_M_222 d_M_open_69 hA (by decide) rfl ?_
  exact z_vret rfl d_M_open_72 (zlq rfl) (zlq rfl) (⟨rfl, rfl⟩)
abbrev rm_M_many : Room := { frames := 0, cells := 0, slots := 0, locals := 0 }
set_option maxHeartbeats 4000000 in
set_option maxRecDepth 100000 in
theorem c_M_many (l : Launch) (E : zE) {A : Nat → Nat} (hA : tmI A) (X : zSt) (hX : tInv X) (m : Int32) : zM l E y_M_many b_M_many 4 ((some .int)) rm_M_many [.ref (A 44), .int m] (tp E A X) (zPi (nI (mny X m)) (tp E A X)) := by
  refine zM_w (by decide +kernel) rfl rfl (fun sz => ?_)
  obtain ⟨⟨⟨h0, b0⟩, ⟨h2, b2⟩, ⟨h4, b4⟩, ⟨h7, b7⟩, ⟨h16, b16⟩⟩, h18, h19, hp, hf, hs, hst⟩ := id hX
  refine z_iconst d_M_many_0 ic_0 ?_
  refine z_istore_n d_M_many_1 (zlt rfl) ?_
  refine z_iconst d_M_many_2 ic_0 ?_
  refine z_istore_n d_M_many_3 (zlt rfl) ?_
  refine zlp (Gh := fun (kz : Nat) (z : Nat) => zG (zcx l E b_M_many "PointsToRoundsModel" 4 ((some .int)) false rm_M_many (tp E A X) sz (zPi (nI (mny X m)) (tp E A X))) 0 0 4 [some (.ref (A 44)), some (.int (m)), some (.int (nI (z))), some (.int (nI (kz)))] [] (tp E A X)) (f := fun i z => if X 8 i = m then z + 1 else z + 0) (N := cn X 7) (x0 := 0) ?_ ?_
  rotate_left
  · intro i hi ihi
    generalize zit _ i _ = zi at ihi ⊢
    show zG (zcx l E b_M_many "PointsToRoundsModel" 4 ((some .int)) false rm_M_many (tp E A X) sz (zPi (nI (mny X m)) (tp E A X))) 0 0 4 [some (.ref (A 44)), some (.int (m)), some (.int (nI (zi))), some (.int (nI (i)))] [] (tp E A X)
    try dsimp only at ihi
    refine z_iload_n d_M_many_4 rfl ?_
    refine z_aload_n d_M_many_5 rfl ?_
    refine z_get fa_M_157 d_M_many_6 (tp_o hA) rfl ?_
    refine z_top h7 ?_
    refine z_icmp_ge (tgt := 36) d_M_many_9 (by decide) (fun c9 => absurd c9 (nI_ge hi (by omega))) (fun c9 => ?_)
    have c9n := (not_congr (nI_leI (by omega) (by omega))).mp c9
    refine z_iload_n d_M_many_12 rfl ?_
    refine z_aload_n d_M_many_13 rfl ?_
    refine z_get fa_M_22 d_M_many_14 (tp_o hA) rfl ?_
    refine z_iload_n d_M_many_17 rfl ?_
    refine z_iald (i) d_M_many_18 (tp_a hA 8 rfl) rfl (show i < 60 from by omega) (by decide) ?_
    refine z_iload_n d_M_many_19 rfl ?_
    refine z_icmp_ne (tgt := 27) d_M_many_20 (by decide) (fun c20 => ?_) (fun c20 => ?_)
    · refine z_iconst d_M_many_27 ic_0 ?_
      refine z_iadd d_M_many_28 ?_
      refine z_top (nI_add (zi) (0)) ?_
      refine z_istore_n d_M_many_29 (zlt rfl) ?_
      refine z_iinc (v := nI (i + 1)) d_M_many_30 (zlt rfl) rfl (zinc _) ?_
      refine z_goto (tgt := 4) d_M_many_33 (by decide) ?_
      rw [if_neg c20] at ihi
      exact ihi
    · refine z_iconst d_M_many_23 ic_1 ?_
      refine z_goto (tgt := 28) d_M_many_24 (by decide) ?_
      refine z_iadd d_M_many_28 ?_
      refine z_top (nI_add (zi) (1)) ?_
      refine z_istore_n d_M_many_29 (zlt rfl) ?_
      refine z_iinc (v := nI (i + 1)) d_M_many_30 (zlt rfl) rfl (zinc _) ?_
      refine z_goto (tgt := 4) d_M_many_33 (by decide) ?_
      rw [if_pos c20] at ihi
      exact ihi
  show zG (zcx l E b_M_many "PointsToRoundsModel" 4 ((some .int)) false rm_M_many (tp E A X) sz (zPi (nI (mny X m)) (tp E A X))) 0 0 4 [some (.ref (A 44)), some (.int (m)), some (.int (nI (zit (fun i z => if X 8 i = m then z + 1 else z + 0) (cn X 7) 0))), some (.int (nI (cn X 7)))] [] (tp E A X)
  refine z_iload_n d_M_many_4 rfl ?_
  refine z_aload_n d_M_many_5 rfl ?_
  refine z_get fa_M_157 d_M_many_6 (tp_o hA) rfl ?_
  refine z_top h7 ?_
  refine z_icmp_ge (tgt := 36) d_M_many_9 (by decide) (fun c9 => ?_) (fun c9 => absurd (nI_le (Nat.le_refl _) (by omega)) c9)
  have c9n := (nI_leI (by omega) (by omega)).mp c9
  refine z_iload_n d_M_many_36 rfl ?_
  exact z_iret rfl d_M_many_37 (zlq rfl) (zlq rfl) (⟨rfl, rfl⟩)
abbrev rm_M_statementOf : Room := { frames := 0, cells := 0, slots := 0, locals := 0 }
set_option maxHeartbeats 4000000 in
set_option maxRecDepth 100000 in
theorem c_M_statementOf (l : Launch) (E : zE) {A : Nat → Nat} (hA : tmI A) (X : zSt) (hX : tInv X) (m : Int32) (t : Nat) (ht : t < 1000) : zM l E y_M_statementOf b_M_statementOf 5 ((some .int)) rm_M_statementOf [.ref (A 44), .int m, .int (nI t)] (tp E A X) (zPi (sof X m (cn X 7) 0 t) (tp E A X)) := by
  refine zM_w (by decide +kernel) rfl rfl (fun sz => ?_)
  obtain ⟨⟨⟨h0, b0⟩, ⟨h2, b2⟩, ⟨h4, b4⟩, ⟨h7, b7⟩, ⟨h16, b16⟩⟩, h18, h19, hp, hf, hs, hst⟩ := id hX
  have lp : ∀ (k i v : Nat), i + k = cn X 7 → v < 1000 → sof X m k i v = sof X m (cn X 7) 0 t → zG (zcx l E b_M_statementOf "PointsToRoundsModel" 5 ((some .int)) false rm_M_statementOf (tp E A X) sz (zPi (sof X m (cn X 7) 0 t) (tp E A X))) 0 0 5 [some (.ref (A 44)), some (.int m), some (.int (nI t)), some (.int (nI v)), some (.int (nI i))] [] (tp E A X) := by
    intro k
    induction k with
    | zero =>
      intro i v hi hlt hv
      refine z_iload d_M_statementOf_5 rfl ?_
      refine z_aload_n d_M_statementOf_7 rfl ?_
      refine z_get fa_M_157 d_M_statementOf_8 (tp_o hA) rfl ?_
      refine z_top h7 ?_
      refine z_icmp_ge (tgt := 41) d_M_statementOf_11 (by decide) (fun c11 => ?_) (fun c11 => absurd (nI_le (by omega) (by omega)) c11)
      have c11n := (nI_leI (by omega) (by omega)).mp c11
      refine z_iconst (v := -1) d_M_statementOf_41 ic_m1 ?_
      exact z_iret rfl d_M_statementOf_42 (zlq rfl) (zlq rfl) (⟨by rw [← hv]; rfl, rfl⟩)
    | succ k ih =>
      intro i v hi hlt hv
      refine z_iload d_M_statementOf_5 rfl ?_
      refine z_aload_n d_M_statementOf_7 rfl ?_
      refine z_get fa_M_157 d_M_statementOf_8 (tp_o hA) rfl ?_
      refine z_top h7 ?_
      refine z_icmp_ge (tgt := 41) d_M_statementOf_11 (by decide) (fun c11 => absurd c11 (nI_ge (by omega) (by omega))) (fun c11 => ?_)
      have c11n := (not_congr (nI_leI (by omega) (by omega))).mp c11
      refine z_aload_n d_M_statementOf_14 rfl ?_
      refine z_get fa_M_22 d_M_statementOf_15 (tp_o hA) rfl ?_
      refine z_iload d_M_statementOf_18 rfl ?_
      refine z_iald (i) d_M_statementOf_20 (tp_a hA 8 rfl) rfl (show i < 60 from by omega) (by decide) ?_
      refine z_iload_n d_M_statementOf_21 rfl ?_
      refine z_icmp_ne (tgt := 35) d_M_statementOf_22 (by decide) (fun c22 => ?_) (fun c22 => ?_)
      · refine z_iinc (v := nI (i + 1)) d_M_statementOf_35 (zlt rfl) rfl (zinc _) ?_
        refine z_goto (tgt := 5) d_M_statementOf_38 (by decide) ?_
        exact ih _ _ (by omega) (by omega) (by rw [← hv, sof, if_neg c22])
      · refine z_iload_n d_M_statementOf_25 rfl ?_
        refine z_if_ne (tgt := 32) d_M_statementOf_26 (by decide) (fun c26 => ?_) (fun c26 => ?_)
        · have c26n := (not_congr (nI_z (by omega))).mp c26
          refine z_iinc (v := nI (v - 1)) d_M_statementOf_32 (zlt rfl) rfl (sb_m1 (show 0 < v by omega)) ?_
          refine z_iinc (v := nI (i + 1)) d_M_statementOf_35 (zlt rfl) rfl (zinc _) ?_
          refine z_goto (tgt := 5) d_M_statementOf_38 (by decide) ?_
          exact ih _ _ (by omega) (by omega) (by rw [← hv, sof, if_pos c22, if_neg c26])
        · have c26n := (nI_z (by omega)).mp c26
          refine z_iload d_M_statementOf_29 rfl ?_
          exact z_iret rfl d_M_statementOf_31 (zlq rfl) (zlq rfl) (⟨by rw [← hv, sof, if_pos c22, if_pos c26], rfl⟩)
  refine z_iload_n d_M_statementOf_0 rfl ?_
  refine z_istore_n d_M_statementOf_1 (zlt rfl) ?_
  refine z_iconst d_M_statementOf_2 ic_0 ?_
  refine z_istore d_M_statementOf_3 (zlt rfl) ?_
  exact lp _ 0 t (by omega) ht rfl
abbrev rm_M_canHave : Room := { frames := 2, cells := 0, slots := 0, locals := 45 }
set_option maxHeartbeats 4000000 in
set_option maxRecDepth 100000 in
theorem c_M_canHave (l : Launch) (E : zE) {A : Nat → Nat} (hA : tmI A) (X : zSt) (hX : tInv X) (hR : rInv X) (o : Int32) (ho : oR (cn X 32) o) (f : Nat) (hf0 : f < cn X 2) : zM l E y_M_canHave b_M_canHave 3 ((some .boolean)) rm_M_canHave [.ref (A 44), .int o, .int (nI f)] (tp E A X) (zPi (bI (cHv X o f)) (tp E A X)) := by
  refine zM_w (by decide +kernel) rfl rfl (fun sz => ?_)
  obtain ⟨⟨⟨h0, b0⟩, ⟨h2, b2⟩, ⟨h4, b4⟩, ⟨h7, b7⟩, ⟨h16, b16⟩⟩, h18, h19, hp, hf, hs, hst⟩ := id hX
  obtain ⟨⟨r37, r37a, r37b⟩, ⟨r32, r32b⟩, rfm, rfn, ros, roe, rof, rst⟩ := id hR
  rcases ho with rfl | ⟨oj, hoj, rfl⟩
  · refine z_iload_n d_M_canHave_0 rfl ?_
    refine z_if_lt (tgt := 22) d_M_canHave_1 (by decide) (fun _ => ?_) (fun q => absurd zneg q)
    refine z_iconst d_M_canHave_22 ic_0 ?_
    exact z_zret rfl nz_0 d_M_canHave_23 (zlq rfl) (zlq rfl) (⟨by unfold cHv; rw [if_pos zneg]; rfl, rfl⟩)
  · refine z_iload_n d_M_canHave_0 rfl ?_
    refine z_if_lt (tgt := 22) d_M_canHave_1 (by decide) (fun q => absurd q (nI_pos (by omega))) (fun _ => ?_)
    refine z_aload_n d_M_canHave_4 rfl ?_
    refine z_aload_n d_M_canHave_5 rfl ?_
    refine z_get fa_M_82 d_M_canHave_6 (tp_o hA) rfl ?_
    refine z_iload_n d_M_canHave_9 rfl ?_
    refine z_iald (oj) d_M_canHave_10 (tp_a hA 33 rfl) rfl (show oj < 30 from by omega) (by decide) ?_
    refine z_top (ros oj hoj).1 ?_
    refine z_iload_n d_M_canHave_11 rfl ?_
    refine z_cVi (c_M_hasField l E hA _ hX (ne X 33 oj) (f) (ros oj hoj).2 hf0) cb_M_hasField ci_M_hasField ln_M_177 (tp_o hA) rfl rfl (zlq rfl) rfl (zlq rfl) (zlq rfl) d_M_canHave_12 ?_
    refine z_if_eq (tgt := 22) d_M_canHave_15 (by decide) (fun c15 => ?_) (fun c15 => ?_)
    · have c15n := bI_e.mp c15
      refine z_iconst d_M_canHave_22 ic_0 ?_
      exact z_zret rfl nz_0 d_M_canHave_23 (zlq rfl) (zlq rfl) (⟨by unfold cHv; rw [if_neg (nI_pos (by omega)), nI_clamp (by omega), c15n]; rfl, rfl⟩)
    · have c15n := bI_n.mp c15
      refine z_iconst d_M_canHave_18 ic_1 ?_
      refine z_goto (tgt := 23) d_M_canHave_19 (by decide) ?_
      exact z_zret rfl nz_1 d_M_canHave_23 (zlq rfl) (zlq rfl) (⟨by unfold cHv; rw [if_neg (nI_pos (by omega)), nI_clamp (by omega), c15n]; rfl, rfl⟩)
abbrev rm_M_isIn : Room := { frames := 0, cells := 0, slots := 0, locals := 0 }
set_option maxHeartbeats 4000000 in
set_option maxRecDepth 100000 in
theorem c_M_isIn (l : Launch) (E : zE) {A : Nat → Nat} (hA : tmI A) (X : zSt) (n : Nat) (hn : n ≤ 30) (o : Int32) (ho : oR n o) (s : Int32) : zM l E y_M_isIn b_M_isIn 3 ((some .boolean)) rm_M_isIn [.ref (A 44), .int o, .int s] (tp E A X) (zPi (bI (inS X o s)) (tp E A X)) := by
  refine zM_w (by decide +kernel) rfl rfl (fun sz => ?_)
  rcases ho with rfl | ⟨oj, hoj, rfl⟩
  · refine z_iload_n d_M_isIn_0 rfl ?_
    refine z_if_lt (tgt := 18) d_M_isIn_1 (by decide) (fun _ => ?_) (fun q => absurd zneg q)
    refine z_iconst d_M_isIn_18 ic_1 ?_
    refine z_goto (tgt := 23) d_M_isIn_19 (by decide) ?_
    exact z_zret rfl nz_1 d_M_isIn_23 (zlq rfl) (zlq rfl) (⟨by unfold inS; rw [if_pos zneg]; rfl, rfl⟩)
  · refine z_iload_n d_M_isIn_0 rfl ?_
    refine z_if_lt (tgt := 18) d_M_isIn_1 (by decide) (fun q => absurd q (nI_pos (by omega))) (fun _ => ?_)
    refine z_iload_n d_M_isIn_4 rfl ?_
    refine z_aload_n d_M_isIn_5 rfl ?_
    refine z_get fa_M_82 d_M_isIn_6 (tp_o hA) rfl ?_
    refine z_iload_n d_M_isIn_9 rfl ?_
    refine z_iald (oj) d_M_isIn_10 (tp_a hA 33 rfl) rfl (show oj < 30 from by omega) (by decide) ?_
    refine z_ishr d_M_isIn_11 ?_
    refine z_iconst d_M_isIn_12 ic_1 ?_
    refine z_iand d_M_isIn_13 ?_
    refine z_iconst d_M_isIn_14 ic_1 ?_
    refine z_icmp_ne (tgt := 22) d_M_isIn_15 (by decide) (fun c15 => ?_) (fun c15 => ?_)
    · refine z_iconst d_M_isIn_22 ic_0 ?_
      exact z_zret rfl nz_0 d_M_isIn_23 (zlq rfl) (zlq rfl) (⟨by unfold inS; rw [if_neg (nI_pos (by omega)), nI_clamp (by omega), decide_eq_false c15]; rfl, rfl⟩)
    · refine z_iconst d_M_isIn_18 ic_1 ?_
      refine z_goto (tgt := 23) d_M_isIn_19 (by decide) ?_
      exact z_zret rfl nz_1 d_M_isIn_23 (zlq rfl) (zlq rfl) (⟨by unfold inS; rw [if_neg (nI_pos (by omega)), nI_clamp (by omega), decide_eq_true c15]; rfl, rfl⟩)
abbrev rm_M_make : Room := { frames := 0, cells := 0, slots := 0, locals := 0 }
set_option maxHeartbeats 4000000 in
set_option maxRecDepth 100000 in
theorem c_M_make (l : Launch) (E : zE) {A : Nat → Nat} (hA : tmI A) (X : zSt) (hR : rInv X) (i to : Nat) (hi : i < 60) (hto : to < 60) : zM l E y_M_make b_M_make 4 (none) rm_M_make [.ref (A 44), .int (nI i), .int (nI to)] (tp E A X) (zPv (tp E A (tMake X i to))) := by
  refine zM_w (by decide +kernel) rfl rfl (fun sz => ?_)
  obtain ⟨⟨r37, r37a, r37b⟩, ⟨r32, r32b⟩, rfm, rfn, ros, roe, rof, rst⟩ := id hR
  refine z_aload_n d_M_make_0 rfl ?_
  refine z_get fa_M_219 d_M_make_1 (tp_o hA) rfl ?_
  refine z_top r32 ?_
  refine z_bipush d_M_make_4 bp_30 ?_
  refine z_icmp_ne (tgt := 10) d_M_make_6 (by decide) (fun c6 => ?_) (fun c6 => ?_)
  · have c6n := (not_congr (nI_eq (by omega) (by omega))).mp c6
    refine z_aload_n d_M_make_10 rfl ?_
    refine z_get fa_M_82 d_M_make_11 (tp_o hA) rfl ?_
    refine z_aload_n d_M_make_14 rfl ?_
    refine z_get fa_M_219 d_M_make_15 (tp_o hA) rfl ?_
    refine z_top r32 ?_
    refine z_aload_n d_M_make_18 rfl ?_
    refine z_get fa_M_43 d_M_make_19 (tp_o hA) rfl ?_
    refine z_iload_n d_M_make_22 rfl ?_
    refine z_iald (i) d_M_make_23 (tp_a hA 15 rfl) rfl (show i < 60 from by omega) (by decide) ?_
    refine t_ast (kf := 33) (j := cn X 32) d_M_make_24 hA rfl rfl (show cn X 32 < 30 from by omega) (by decide) ?_
    refine z_aload_n d_M_make_25 rfl ?_
    refine z_get fa_M_88 d_M_make_26 (tp_o hA) rfl ?_
    refine z_aload_n d_M_make_29 rfl ?_
    refine z_get fa_M_219 d_M_make_30 (tp_o hA) rfl ?_
    refine z_top r32 ?_
    refine z_iconst (v := -1) d_M_make_33 ic_m1 ?_
    refine t_ast (kf := 35) (j := cn X 32) d_M_make_34 hA rfl rfl (show cn X 32 < 30 from by omega) (by decide) ?_
    refine z_iconst d_M_make_35 ic_0 ?_
    refine z_istore_n d_M_make_36 (zlt rfl) ?_
    have hO : tsm [33, 34, 35] X (va_up (va_up X 33 (upd (X 33) (cn X 32) (X 15 i))) 35 (upd (X 35) (cn X 32) (-1))) := tsm_tr (tsm_up (by decide)) (tsm_up (by decide))
    have hTf := zit_inv (f := fun k Y => va_up Y 34 (upd (Y 34) (8 * (cn X 32) + k) (-1))) (I := fun _ Y => tsm [33, 34, 35] X Y) (N := 8) (x0 := (va_up (va_up X 33 (upd (X 33) (cn X 32) (X 15 i))) 35 (upd (X 35) (cn X 32) (-1)))) (hO) (fun k Y _ h => tsm_tr h (tsm_up (by decide)))
    refine zlp (Gh := fun (kz : Nat) (Z : zSt) => zG (zcx l E b_M_make "PointsToRoundsModel" 4 (none) false rm_M_make (tp E A X) sz (zPv (tp E A (tMake X i to)))) 0 0 37 [some (.ref (A 44)), some (.int (nI (i))), some (.int (nI (to))), some (.int (nI (kz)))] [] (tp E A Z)) (f := fun k Y => va_up Y 34 (upd (Y 34) (8 * (cn X 32) + k) (-1))) (N := 8) (x0 := (va_up (va_up X 33 (upd (X 33) (cn X 32) (X 15 i))) 35 (upd (X 35) (cn X 32) (-1)))) ?_ ?_
    rotate_left
    · intro f hf ihf
      have hYf := hTf f (by omega)
      generalize zit _ f _ = Yf at ihf hYf ⊢
      show zG (zcx l E b_M_make "PointsToRoundsModel" 4 (none) false rm_M_make (tp E A X) sz (zPv (tp E A (tMake X i to)))) 0 0 37 [some (.ref (A 44)), some (.int (nI (i))), some (.int (nI (to))), some (.int (nI (f)))] [] (tp E A Yf)
      try dsimp only at ihf
      refine z_iload_n d_M_make_37 rfl ?_
      refine z_bipush d_M_make_38 bp_8 ?_
      refine z_icmp_ge (tgt := 64) d_M_make_40 (by decide) (fun c40 => absurd c40 (nI_ge hf (by omega))) (fun c40 => ?_)
      have c40n := (not_congr (nI_leI (by omega) (by omega))).mp c40
      refine z_aload_n d_M_make_43 rfl ?_
      refine z_get fa_M_85 d_M_make_44 (tp_o hA) rfl ?_
      refine z_bipush d_M_make_47 bp_8 ?_
      refine z_aload_n d_M_make_49 rfl ?_
      refine z_get fa_M_219 d_M_make_50 (tp_o hA) rfl ?_
      refine z_top ((congrFun (hYf 32 (by decide)) 0).trans r32) ?_
      refine z_imul d_M_make_53 ?_
      refine z_top (pk_mul (8) (cn X 32)) ?_
      refine z_iload_n d_M_make_54 rfl ?_
      refine z_iadd d_M_make_55 ?_
      refine z_top (nI_add (8 * (cn X 32)) (f)) ?_
      refine z_iconst (v := -1) d_M_make_56 ic_m1 ?_
      refine t_ast (kf := 34) (j := 8 * (cn X 32) + f) d_M_make_57 hA rfl rfl (show 8 * (cn X 32) + f < 240 from by omega) (by decide) ?_
      refine z_iinc (v := nI (f + 1)) d_M_make_58 (zlt rfl) rfl (zinc _) ?_
      refine z_goto (tgt := 37) d_M_make_61 (by decide) ?_
      exact ihf
    show zG (zcx l E b_M_make "PointsToRoundsModel" 4 (none) false rm_M_make (tp E A X) sz (zPv (tp E A (tMake X i to)))) 0 0 37 [some (.ref (A 44)), some (.int (nI (i))), some (.int (nI (to))), some (.int (nI 8))] [] (tp E A (tMk1 X i))
    have hEf := hTf _ (Nat.le_refl _)
    refine z_iload_n d_M_make_37 rfl ?_
    refine z_bipush d_M_make_38 bp_8 ?_
    refine z_icmp_ge (tgt := 64) d_M_make_40 (by decide) (fun c40 => ?_) (fun c40 => absurd (by decide +kernel) c40)
    refine z_aload_n d_M_make_64 rfl ?_
    refine z_get fa_M_103 d_M_make_65 (tp_o hA) rfl ?_
    refine z_iload_n d_M_make_68 rfl ?_
    refine z_aload_n d_M_make_69 rfl ?_
    refine z_get fa_M_219 d_M_make_70 (tp_o hA) rfl ?_
    refine z_top ((congrFun (hEf 32 (by decide)) 0).trans r32) ?_
    refine t_ast (kf := 41) (j := to) d_M_make_73 hA rfl rfl (show to < 60 from by omega) (by decide) ?_
    refine z_aload_n d_M_make_74 rfl ?_
    refine z_dup d_M_make_75 rfl ?_
    refine z_get fa_M_219 d_M_make_76 (tp_o hA) rfl ?_
    refine z_top ((congrFun (hEf 32 (by decide)) 0).trans r32) ?_
    refine z_iconst d_M_make_79 ic_1 ?_
    refine z_iadd d_M_make_80 ?_
    refine z_top (nI_add (cn X 32) (1)) ?_
    refine t_put fp_M_219 d_M_make_81 hA (by decide) rfl ?_
    exact z_vret rfl d_M_make_84 (zlq rfl) (zlq rfl) (⟨rfl, by unfold tMake; rw [if_neg c6]; rfl⟩)
  · have c6n := (nI_eq (by omega) (by omega)).mp c6
    exact z_vret rfl d_M_make_9 (zlq rfl) (zlq rfl) (⟨rfl, by unfold tMake; rw [if_pos c6]⟩)
abbrev rm_M_leave : Room := { frames := 0, cells := 0, slots := 0, locals := 0 }
set_option maxHeartbeats 4000000 in
set_option maxRecDepth 100000 in
theorem c_M_leave (l : Launch) (E : zE) {A : Nat → Nat} (hA : tmI A) (X : zSt) (hR : rInv X) : zM l E y_M_leave b_M_leave 1 (none) rm_M_leave [.ref (A 44)] (tp E A X) (zPv (tp E A (tLeave X))) := by
  refine zM_w (by decide +kernel) rfl rfl (fun sz => ?_)
  obtain ⟨⟨r37, r37a, r37b⟩, ⟨r32, r32b⟩, rfm, rfn, ros, roe, rof, rst⟩ := id hR
  refine z_aload_n d_M_leave_0 rfl ?_
  refine z_get fa_M_222 d_M_leave_1 (tp_o hA) rfl ?_
  refine z_top r37 ?_
  refine z_iconst d_M_leave_4 ic_1 ?_
  refine z_icmp_ne (tgt := 9) d_M_leave_5 (by decide) (fun c5 => ?_) (fun c5 => ?_)
  · have c5n := (not_congr (nI_eq (by omega) (by omega))).mp c5
    have hq := (rfm (cn X 37 - 1) (by omega)).2.2.2
    refine z_aload_n d_M_leave_9 rfl ?_
    refine z_dup d_M_leave_10 rfl ?_
    refine z_get fa_M_222 d_M_leave_11 (tp_o hA) rfl ?_
    refine z_top r37 ?_
    refine z_iconst d_M_leave_14 ic_1 ?_
    refine z_isub d_M_leave_15 ?_
    refine z_top (pk_sub (a := cn X 37) (b := 1) (by omega)) ?_
    refine t_put fp_M_222 d_M_leave_16 hA (by decide) rfl ?_
    refine z_aload_n d_M_leave_19 rfl ?_
    refine z_get fa_M_103 d_M_leave_20 (tp_o hA) rfl ?_
    refine z_bipush d_M_leave_23 bp_6 ?_
    refine z_aload_n d_M_leave_25 rfl ?_
    refine z_get (v := .int (nI (cn X 37 - 1))) fa_M_222 d_M_leave_26 (tp_o hA) rfl ?_
    refine z_iconst d_M_leave_29 ic_1 ?_
    refine z_isub d_M_leave_30 ?_
    refine z_top (pk_sub (a := cn X 37 - 1) (b := 1) (by omega)) ?_
    refine z_imul d_M_leave_31 ?_
    refine z_top (pk_mul (6) (cn X 37 - 1 - 1)) ?_
    refine z_aload_n d_M_leave_32 rfl ?_
    refine z_get fa_M_100 d_M_leave_33 (tp_o hA) rfl ?_
    refine z_aload_n d_M_leave_36 rfl ?_
    refine z_get (v := .int (nI (cn X 37 - 1))) fa_M_222 d_M_leave_37 (tp_o hA) rfl ?_
    refine z_iald (cn X 37 - 1) d_M_leave_40 (tp_a hA 40 rfl) rfl (show cn X 37 - 1 < 10 from by omega) (by decide) ?_
    refine z_top (show _ = nI (ne X 40 (cn X 37 - 1)) from (rfm (cn X 37 - 1) (by omega)).2.2.1) ?_
    refine z_iadd d_M_leave_41 ?_
    refine z_top (nI_add (6 * (cn X 37 - 1 - 1)) (ne X 40 (cn X 37 - 1))) ?_
    refine z_aload_n d_M_leave_42 rfl ?_
    refine z_get fa_M_103 d_M_leave_43 (tp_o hA) rfl ?_
    refine z_bipush d_M_leave_46 bp_6 ?_
    refine z_aload_n d_M_leave_48 rfl ?_
    refine z_get (v := .int (nI (cn X 37 - 1))) fa_M_222 d_M_leave_49 (tp_o hA) rfl ?_
    refine z_imul d_M_leave_52 ?_
    refine z_top (pk_mul (6) (cn X 37 - 1)) ?_
    refine z_iconst d_M_leave_53 ic_5 ?_
    refine z_iadd d_M_leave_54 ?_
    refine z_top (nI_add (6 * (cn X 37 - 1)) (5)) ?_
    refine z_iald (6 * (cn X 37 - 1) + 5) d_M_leave_55 (tp_a hA 41 rfl) rfl (show 6 * (cn X 37 - 1) + 5 < 60 from by omega) (by decide) ?_
    refine t_ast (kf := 41) (j := 6 * (cn X 37 - 1 - 1) + (ne X 40 (cn X 37 - 1))) d_M_leave_56 hA rfl rfl (show 6 * (cn X 37 - 1 - 1) + (ne X 40 (cn X 37 - 1)) < 60 from by omega) (by decide) ?_
    exact z_vret rfl d_M_leave_57 (zlq rfl) (zlq rfl) (⟨rfl, by unfold tLeave; rw [if_neg c5]; rfl⟩)
  · have c5n := (nI_eq (by omega) (by omega)).mp c5
    exact z_vret rfl d_M_leave_8 (zlq rfl) (zlq rfl) (⟨rfl, by unfold tLeave; rw [if_pos c5]⟩)
