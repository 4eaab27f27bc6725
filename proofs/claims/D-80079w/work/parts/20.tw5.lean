/-! the twin: know, answers -/
theorem tK0_tsm {X : zSt} : tsm (19 :: SETS) X (tK0 X) := tsm_tr (tsm_tr (tsm_up (by decide)) (tsm_w tEm_tsm (by decide))) (tsm_up (by decide))
theorem tKnow_tsm {f : Nat} {X : zSt} : tsm (19 :: SETS) X (tKnow f X) := by
  unfold tKnow
  split
  · exact tsm_tr tK0_tsm (tsm_w (tLoop_tsm f) (by decide))
  · exact tsm_rf
theorem S19 : ∀ j, j ≤ 18 → j ∉ 19 :: SETS := by
  intro j hj hm
  simp at hm
  omega
theorem tK0_19 {X : zSt} : tK0 X 19 0 = nI 1 := by
  unfold tK0
  rw [va_up_ne _ _ (by decide), tEm_tsm 19 (by decide), va_up_self]
theorem tKnow_19 {f : Nat} {X : zSt} (h : X 19 0 = 0 ∨ X 19 0 = 1) : tKnow f X 19 0 = 1 := by
  unfold tKnow
  split
  · rw [tLoop_tsm f 19 (by decide), tK0_19, nI_one]
  · rename_i hn
    exact h.resolve_left hn
theorem tK0_inv {X : zSt} (hX : tInv X) : tInv (tK0 X) := tInv_19 (fun j hj => tK0_tsm j (S19 j hj)) (Or.inr (by rw [tK0_19, nI_one])) hX
theorem tKnow_inv {f : Nat} {X : zSt} (hX : tInv X) : tInv (tKnow f X) := tInv_19 (fun j hj => tKnow_tsm j (S19 j hj)) (Or.inr (tKnow_19 hX.2.2.1)) hX
theorem tIn_nat {x n : Int32} {N : Nat} (h : tIn x n = true) (hn : n = nI N) (hN : N < 2 ^ 31) : ∃ j : Nat, j < N ∧ x = nI j := by
  unfold tIn at h
  rw [Bool.and_eq_true] at h
  have h1 : ¬ x < 0 := by simpa using h.1
  have h2 : ¬ n ≤ x := by simpa using h.2
  obtain ⟨j, hj, rfl⟩ := nI_of h1
  refine ⟨j, ?_, rfl⟩
  rw [hn] at h2
  exact Nat.not_le.mp (fun q => h2 (nI_le q hj))
def tCtx (X : zSt) (c : Int32) : Bool := if c < 0 then false else if X 18 0 = 0 then (if nI 0 < c then false else true) else (if nI (cn X 16) < c then false else true)
theorem tCtx_nat {X : zSt} {c : Int32} (h : tCtx X c = true) (hb : cn X 16 ≤ 20) : ∃ j : Nat, j ≤ 20 ∧ c = nI j := by
  unfold tCtx at h
  by_cases h1 : c < 0
  · rw [if_pos h1] at h; cases h
  · rw [if_neg h1] at h
    obtain ⟨j, hj, rfl⟩ := nI_of h1
    refine ⟨j, ?_, rfl⟩
    by_cases h2 : X 18 0 = 0
    · rw [if_pos h2] at h
      by_cases h3 : nI 0 < nI j
      · rw [if_pos h3] at h; cases h
      · have := (not_congr (nI_ltI (by omega) hj)).mp h3
        omega
    · rw [if_neg h2] at h
      by_cases h3 : nI (cn X 16) < nI j
      · rw [if_pos h3] at h; cases h
      · have := (not_congr (nI_ltI (by omega) hj)).mp h3
        omega
def tPts (f : Nat) (X : zSt) (m c n : Int32) : Int32 × zSt := if tIn m (X 4 0) = true then (if tIn n (nI 6) = true then (if c = -1 then (tAll (tKnow f X) m.toNatClampNeg n.toNatClampNeg, tKnow f X) else if tCtx X c = true then (tKnow f X 20 (126 * m.toNatClampNeg + 6 * c.toNatClampNeg + n.toNatClampNeg), tKnow f X) else (-1, X)) else (-1, X)) else (-1, X)
def tInF (f : Nat) (X : zSt) (o g : Int32) : Int32 × zSt := if tIn o (X 16 0) = true then (if tIn g (X 2 0) = true then (tKnow f X 22 (8 * o.toNatClampNeg + g.toNatClampNeg), tKnow f X) else (-1, X)) else (-1, X)
def tElm (f : Nat) (X : zSt) (o : Int32) : Int32 × zSt := if tIn o (X 16 0) = true then (tKnow f X 24 o.toNatClampNeg, tKnow f X) else (-1, X)
def tSta (f : Nat) (X : zSt) (o : Int32) : Int32 × zSt := if tIn o (nI 4) = true then (tKnow f X 26 o.toNatClampNeg, tKnow f X) else (-1, X)
def aRch (K : zSt) (m : Nat) : Int32 := zit (fun k z => z + (K 28 (m) >>> (nI k &&& 31) &&& nI 1)) 21 (nI 0)
def tRch (f : Nat) (X : zSt) (m : Int32) : Int32 × zSt := if tIn m (X 4 0) = true then (aRch (tKnow f X) m.toNatClampNeg, tKnow f X) else (-1, X)
def tMay1 (X : zSt) (i : Nat) (q : Int32) (o : Nat) (z : Int32) : Int32 := if q >>> (nI o &&& 31) &&& nI 1 = 0 then z else if ne X 9 i = 4 then (if und X 9 (X 17 o) (X 12 i) = true then z ||| nI 0 else z ||| sh1 o) else (if 0 ≤ fdf X (X 12 i) 9 (X 17 o) then z ||| (nI 1 <<< (fdf X (X 12 i) 9 (X 17 o) &&& 31)) else z ||| nI 0)
def aMay (X K : zSt) (i : Nat) : Int32 := zit (fun o z => tMay1 X i (tAll K (ne X 8 i) (ne X 11 i)) o z) (cn X 16) (nI 0)
def tMay (f : Nat) (X : zSt) (i : Int32) : Int32 × zSt := if i < 0 then (-1, X) else if i < nI (cn X 7) then (if nI (ne X 9 i.toNatClampNeg) = nI 4 then (aMay X (tKnow f X) i.toNatClampNeg, tKnow f X) else if nI (ne X 9 i.toNatClampNeg) = nI 7 then (aMay X (tKnow f X) i.toNatClampNeg, tKnow f X) else (-3, X)) else (-1, X)
def tAli (f : Nat) (X : zSt) (m n m2 n2 : Int32) : Int32 × zSt := if tIn m (X 4 0) = true then (if tIn n (nI 6) = true then (if tIn m2 (X 4 0) = true then (if tIn n2 (nI 6) = true then (if tAll (tKnow f X) m.toNatClampNeg n.toNatClampNeg &&& tAll (tKnow f X) m2.toNatClampNeg n2.toNatClampNeg = 0 then (nI 0, tKnow f X) else (nI 1, tKnow f X)) else (-1, X)) else (-1, X)) else (-1, X)) else (-1, X)
def tRds (f : Nat) (X : zSt) : Int32 × zSt := (tKnow f X 31 0, tKnow f X)
def tWhn (f : Nat) (X : zSt) (m n o : Int32) : Int32 × zSt := if tIn m (X 4 0) = true then (if tIn n (nI 6) = true then (if tIn o (X 16 0) = true then (if 0 ≤ tKnow f X 30 (120 * m.toNatClampNeg + 20 * n.toNatClampNeg + o.toNatClampNeg) then (tKnow f X 30 (120 * m.toNatClampNeg + 20 * n.toNatClampNeg + o.toNatClampNeg), tKnow f X) else (-3, tKnow f X)) else (-1, X)) else (-1, X)) else (-1, X)
def tMet (X : zSt) (m n : Int32) : Int32 := if tIn m (X 4 0) = true then (if tIn n (nI 6) = true then X 42 (6 * m.toNatClampNeg + n.toNatClampNeg) else -1) else -1
def tRan (X : zSt) (x : Int32) : Int32 := if x = 0 then X 32 0 else if x = nI 1 then X 37 0 else if x = nI 2 then X 43 0 else -2
/-- the fuel is enough where the rounds must be made -/
def tFu (f : Nat) (X : zSt) : Prop := X 19 0 = 0 → tStops f (tK0 X)
abbrev rm_M_know : Room := { frames := 4, cells := 0, slots := 0, locals := 102 }
set_option maxHeartbeats 4000000 in
set_option maxRecDepth 100000 in
theorem c_M_know (l : Launch) (E : zE) {A : Nat → Nat} (hA : tmI A) (X0 : zSt) (hX0 : tInv X0) (F : Nat) (hF : tFu F X0) : zM l E y_M_know b_M_know 4 (none) rm_M_know [.ref (A 44)] (tp E A X0) (zPv (tp E A (tKnow F X0))) := by
  refine zM_w (by decide +kernel) rfl rfl (fun sz => ?_)
  have lp : ∀ (f : Nat) (X : zSt), tInv X → tStops f X → tLoop f X = tKnow F X0 → zG (zcx l E b_M_know "PointsToRoundsModel" 4 (none) false rm_M_know (tp E A X0) sz (zPv (tp E A (tKnow F X0)))) 0 0 24 [some (.ref (A 44)), some (.int (nI 1)), none, none] [] (tp E A X) := by
    intro f
    induction f with
    | zero => intro X _ hs _; exact hs.elim
    | succ f ih =>
      intro X hX hs0 hR
      obtain ⟨⟨⟨h0, b0⟩, ⟨h2, b2⟩, ⟨h4, b4⟩, ⟨h7, b7⟩, ⟨h16, b16⟩⟩, h18, h19, hp, hf, hs, hst⟩ := id hX
      refine z_iload_n d_M_know_24 rfl ?_
      refine z_if_eq (tgt := 129) d_M_know_25 (by decide) (fun c25 => absurd c25 (by decide +kernel)) (fun c25 => ?_)
      refine z_aload_n d_M_know_28 rfl ?_
      refine z_cVv (c_M_copy l E hA _) cb_M_copy ci_M_copy ln_M_192 (tp_o hA) rfl rfl (zlq rfl) rfl (zlq rfl) (zlq rfl) d_M_know_29 ?_
      refine z_iconst d_M_know_32 ic_0 ?_
      refine z_istore_n d_M_know_33 (zlt rfl) ?_
      have hTi := zit_inv (f := fun i Y => tRow X i Y) (I := fun _ Y => tsm THN X Y) (N := cn X 7) (x0 := (tCp X)) (tCp_tsm) (fun k Y _ h => tsm_tr h tRow_tsm)
      refine zlp (Gh := fun (kz : Nat) (Z : zSt) => zG (zcx l E b_M_know "PointsToRoundsModel" 4 (none) false rm_M_know (tp E A X0) sz (zPv (tp E A (tKnow F X0)))) 0 0 34 [some (.ref (A 44)), some (.int (nI 1)), some (.int (nI (kz))), none] [] (tp E A Z)) (f := fun i Y => tRow X i Y) (N := cn X 7) (x0 := (tCp X)) ?_ ?_
      rotate_left
      · intro i hi ihi
        have hYi := hTi i (by omega)
        generalize zit _ i _ = Yi at ihi hYi ⊢
        show zG (zcx l E b_M_know "PointsToRoundsModel" 4 (none) false rm_M_know (tp E A X0) sz (zPv (tp E A (tKnow F X0)))) 0 0 34 [some (.ref (A 44)), some (.int (nI 1)), some (.int (nI (i))), none] [] (tp E A Yi)
        try dsimp only at ihi
        refine z_iload_n d_M_know_34 rfl ?_
        refine z_aload_n d_M_know_35 rfl ?_
        refine z_get fa_M_157 d_M_know_36 (tp_o hA) rfl ?_
        refine z_top ((congrFun (hYi 7 (by decide)) 0).trans h7) ?_
        refine z_icmp_ge (tgt := 87) d_M_know_39 (by decide) (fun c39 => absurd c39 (nI_ge hi (by omega))) (fun c39 => ?_)
        have c39n := (not_congr (nI_leI (by omega) (by omega))).mp c39
        refine z_iconst d_M_know_42 ic_0 ?_
        refine z_istore_n d_M_know_43 (zlt rfl) ?_
        obtain ⟨⟨s8, l8⟩, ⟨s9, l9⟩, ⟨s10, l10, l10a⟩, ⟨s11, l11, l11a, l11b⟩, s12, s13, s15⟩ := hst i hi
        have hTc := zit_inv (f := fun c Y => if tb (X 28 (ne X 8 i)) c = true then tBr X i c Y else Y) (I := fun _ Y => tsm THN X Y) (N := 21) (x0 := Yi) (hYi) (fun k Y _ h => tsm_tr h (by (try dsimp only); split; exact tBr_tsm; exact tsm_rf))
        refine zlp (Gh := fun (kz : Nat) (Z : zSt) => zG (zcx l E b_M_know "PointsToRoundsModel" 4 (none) false rm_M_know (tp E A X0) sz (zPv (tp E A (tKnow F X0)))) 0 0 44 [some (.ref (A 44)), some (.int (nI 1)), some (.int (nI (i))), some (.int (nI (kz)))] [] (tp E A Z)) (f := fun c Y => if tb (X 28 (ne X 8 i)) c = true then tBr X i c Y else Y) (N := 21) (x0 := Yi) ?_ ?_
        rotate_left
        · intro c hc ihc
          have hYc := hTc c (by omega)
          generalize zit _ c _ = Yc at ihc hYc ⊢
          show zG (zcx l E b_M_know "PointsToRoundsModel" 4 (none) false rm_M_know (tp E A X0) sz (zPv (tp E A (tKnow F X0)))) 0 0 44 [some (.ref (A 44)), some (.int (nI 1)), some (.int (nI (i))), some (.int (nI (c)))] [] (tp E A Yc)
          try dsimp only at ihc
          refine z_iload_n d_M_know_44 rfl ?_
          refine z_bipush d_M_know_45 bp_21 ?_
          refine z_icmp_ge (tgt := 81) d_M_know_47 (by decide) (fun c47 => absurd c47 (nI_ge hc (by omega))) (fun c47 => ?_)
          have c47n := (not_congr (nI_leI (by omega) (by omega))).mp c47
          refine z_aload_n d_M_know_50 rfl ?_
          refine z_get fa_M_73 d_M_know_51 (tp_o hA) rfl ?_
          refine z_aload_n d_M_know_54 rfl ?_
          refine z_get fa_M_22 d_M_know_55 (tp_o hA) rfl ?_
          refine z_iload_n d_M_know_58 rfl ?_
          refine z_iald (i) d_M_know_59 (tp_a hA 8 rfl) rfl (show i < 60 from by omega) (by decide) ?_
          refine z_top ((congrFun (hYc 8 (by decide)) (i)).trans s8) ?_
          refine z_iald (ne X 8 i) d_M_know_60 (tp_a hA 28 rfl) rfl (show ne X 8 i < 10 from by omega) (by decide) ?_
          refine z_top (congrFun (hYc 28 (by decide)) (ne X 8 i)) ?_
          refine z_iload_n d_M_know_61 rfl ?_
          refine z_ishr d_M_know_62 ?_
          refine z_iconst d_M_know_63 ic_1 ?_
          refine z_iand d_M_know_64 ?_
          refine z_iconst d_M_know_65 ic_1 ?_
          refine z_icmp_ne (tgt := 75) d_M_know_66 (by decide) (fun c66 => ?_) (fun c66 => ?_)
          · refine z_iinc (v := nI (c + 1)) d_M_know_75 (zlt rfl) rfl (zinc _) ?_
            refine z_goto (tgt := 44) d_M_know_78 (by decide) ?_
            rw [if_neg (zbf (show tb (X 28 (ne X 8 i)) c = false from decide_eq_false c66))] at ihc
            exact ihc
          · refine z_aload_n d_M_know_69 rfl ?_
            refine z_iload_n d_M_know_70 rfl ?_
            refine z_iload_n d_M_know_71 rfl ?_
            refine z_cVv (c_M_bring l E hA hX hYc i hi c hc) cb_M_bring ci_M_bring ln_M_195 (tp_o hA) rfl rfl (zlq rfl) rfl (zlq rfl) (zlq rfl) d_M_know_72 ?_
            refine z_iinc (v := nI (c + 1)) d_M_know_75 (zlt rfl) rfl (zinc _) ?_
            refine z_goto (tgt := 44) d_M_know_78 (by decide) ?_
            rw [if_pos (show tb (X 28 (ne X 8 i)) c = true from decide_eq_true c66)] at ihc
            exact ihc
        show zG (zcx l E b_M_know "PointsToRoundsModel" 4 (none) false rm_M_know (tp E A X0) sz (zPv (tp E A (tKnow F X0)))) 0 0 44 [some (.ref (A 44)), some (.int (nI 1)), some (.int (nI (i))), some (.int (nI 21))] [] (tp E A (zit (fun c Y => if tb (X 28 (ne X 8 i)) c = true then tBr X i c Y else Y) (21) Yi))
        have hEc := hTc _ (Nat.le_refl _)
        refine z_iload_n d_M_know_44 rfl ?_
        refine z_bipush d_M_know_45 bp_21 ?_
        refine z_icmp_ge (tgt := 81) d_M_know_47 (by decide) (fun c47 => ?_) (fun c47 => absurd (by decide +kernel) c47)
        refine z_iinc (v := nI (i + 1)) d_M_know_81 (zlt rfl) rfl (zinc _) ?_
        refine z_goto (tgt := 34) d_M_know_84 (by decide) ?_
        refine z_fl 3 ?_
        exact ihi
      show zG (zcx l E b_M_know "PointsToRoundsModel" 4 (none) false rm_M_know (tp E A X0) sz (zPv (tp E A (tKnow F X0)))) 0 0 34 [some (.ref (A 44)), some (.int (nI 1)), some (.int (nI (cn X 7))), none] [] (tp E A (tRnd X))
      have hEi := hTi _ (Nat.le_refl _)
      refine z_iload_n d_M_know_34 rfl ?_
      refine z_aload_n d_M_know_35 rfl ?_
      refine z_get fa_M_157 d_M_know_36 (tp_o hA) rfl ?_
      refine z_top ((congrFun (hEi 7 (by decide)) 0).trans h7) ?_
      refine z_icmp_ge (tgt := 87) d_M_know_39 (by decide) (fun c39 => ?_) (fun c39 => absurd (nI_le (Nat.le_refl _) (by omega)) c39)
      have c39n := (nI_leI (by omega) (by omega)).mp c39
      refine z_aload_n d_M_know_87 rfl ?_
      refine z_cVi (c_M_isSame l E hA _) cb_M_isSame ci_M_isSame ln_M_199 (tp_o hA) rfl rfl (zlq rfl) rfl (zlq rfl) (zlq rfl) d_M_know_88 ?_
      refine z_if_ne (tgt := 98) d_M_know_91 (by decide) (fun c91 => ?_) (fun c91 => ?_)
      · have c91n := bI_n.mp c91
        refine z_iconst d_M_know_98 ic_0 ?_
        refine z_istore_n d_M_know_99 (zlt rfl) ?_
        refine z_iload_n d_M_know_100 rfl ?_
        refine z_if_eq (tgt := 24) d_M_know_101 (by decide) (fun c101 => ?_) (fun c101 => absurd (by decide +kernel) c101)
        refine z_iload_n d_M_know_24 rfl ?_
        refine z_if_eq (tgt := 129) d_M_know_25 (by decide) (fun c25 => ?_) (fun c25 => absurd (by decide +kernel) c25)
        exact z_vret rfl d_M_know_129 (zlq rfl) (zlq rfl) (⟨rfl, by rw [← hR, tLoop, if_pos c91n]⟩)
      · have c91n := bI_e.mp c91
        refine z_iconst d_M_know_94 ic_1 ?_
        refine z_goto (tgt := 99) d_M_know_95 (by decide) ?_
        refine z_istore_n d_M_know_99 (zlt rfl) ?_
        refine z_iload_n d_M_know_100 rfl ?_
        refine z_if_eq (tgt := 24) d_M_know_101 (by decide) (fun c101 => absurd c101 (by decide +kernel)) (fun c101 => ?_)
        refine z_aload_n d_M_know_104 rfl ?_
        refine z_cVv (c_M_swap l E hA _) cb_M_swap ci_M_swap ln_M_203 (tp_o hA) rfl rfl (zlq rfl) rfl (zlq rfl) (zlq rfl) d_M_know_105 ?_
        have h31 : (tSw (tRnd X)) 31 = X 31 := (tSw_tsm 31 (by decide)).trans (tRnd_tsm 31 (by decide))
        refine z_aload_n d_M_know_108 rfl ?_
        refine z_dup d_M_know_109 rfl ?_
        refine z_get fa_M_189 d_M_know_110 (tp_o hA) rfl ?_
        refine z_top (congrFun h31 0) ?_
        refine z_iconst d_M_know_113 ic_1 ?_
        refine z_iadd d_M_know_114 ?_
        refine t_put fp_M_189 d_M_know_115 hA (by decide) rfl ?_
        refine z_aload_n d_M_know_118 rfl ?_
        refine z_aload_n d_M_know_119 rfl ?_
        refine z_get (v := .int ((X 31 0 + nI 1))) fa_M_189 d_M_know_120 (tp_o hA) rfl ?_
        have hN : tInv (va_up (tSw (tRnd X)) 31 (fun _ => X 31 0 + nI 1)) := tInv_tsm (S := SETS) (tsm_tr (tsm_tr (tsm_w tRnd_tsm (by decide)) (tsm_w tSw_tsm (by decide))) (tsm_up (by decide))) SETS_19 hX
        refine z_cVv (c_M_note l E hA _ hN _) cb_M_note ci_M_note ln_M_206 (tp_o hA) rfl rfl (zlq rfl) rfl (zlq rfl) (zlq rfl) d_M_know_123 ?_
        refine z_goto (tgt := 24) d_M_know_126 (by decide) ?_
        refine z_fl 2 ?_
        refine z_fl 3 ?_
        refine ih (tNext X) (tInv_tsm tNext_tsm SETS_19 hX) (hs0.resolve_left (zbf c91n)) ?_
        rw [← hR, tLoop, if_neg (zbf c91n)]
  refine z_aload_n d_M_know_0 rfl ?_
  refine z_get fa_M_127 d_M_know_1 (tp_o hA) rfl ?_
  refine z_if_eq (tgt := 8) d_M_know_4 (by decide) (fun c4 => ?_) (fun c4 => ?_)
  · refine z_aload_n d_M_know_8 rfl ?_
    refine z_iconst d_M_know_9 ic_1 ?_
    refine t_putZ fp_M_127 nz_1 d_M_know_10 hA (by decide) rfl ?_
    have hX1 : tInv (va_up X0 19 (fun _ => nI 1)) := tInv_19 (fun j hj => va_up_ne _ _ (by omega)) (Or.inr (by rw [va_up_self]; exact nI_one)) hX0
    refine z_aload_n d_M_know_13 rfl ?_
    refine z_cVv (c_M_empty l E hA _ hX1) cb_M_empty ci_M_empty ln_M_186 (tp_o hA) rfl rfl (zlq rfl) rfl (zlq rfl) (zlq rfl) d_M_know_14 ?_
    refine z_aload_n d_M_know_17 rfl ?_
    refine z_iconst d_M_know_18 ic_0 ?_
    refine t_put fp_M_189 d_M_know_19 hA (by decide) rfl ?_
    refine z_iconst d_M_know_22 ic_1 ?_
    refine z_istore_n d_M_know_23 (zlt rfl) ?_
    refine lp F (tK0 X0) (tK0_inv hX0) (hF c4) ?_
    unfold tKnow
    rw [if_pos c4]
  · exact z_vret rfl d_M_know_7 (zlq rfl) (zlq rfl) (⟨rfl, by unfold tKnow; rw [if_neg c4]⟩)
abbrev rm_M_isContext : Room := { frames := 0, cells := 0, slots := 0, locals := 0 }
set_option maxHeartbeats 4000000 in
set_option maxRecDepth 100000 in
theorem c_M_isContext (l : Launch) (E : zE) {A : Nat → Nat} (hA : tmI A) (X : zSt) (hX : tInv X) (c : Int32) : zM l E y_M_isContext b_M_isContext 2 ((some .boolean)) rm_M_isContext [.ref (A 44), .int c] (tp E A X) (zPi (bI (tCtx X c)) (tp E A X)) := by
  refine zM_w (by decide +kernel) rfl rfl (fun sz => ?_)
  obtain ⟨⟨⟨h0, b0⟩, ⟨h2, b2⟩, ⟨h4, b4⟩, ⟨h7, b7⟩, ⟨h16, b16⟩⟩, h18, h19, hp, hf, hs, hst⟩ := id hX
  refine z_iload_n d_M_isContext_0 rfl ?_
  refine z_if_lt (tgt := 27) d_M_isContext_1 (by decide) (fun c1 => ?_) (fun c1 => ?_)
  · refine z_iconst d_M_isContext_27 ic_0 ?_
    exact z_zret rfl nz_0 d_M_isContext_28 (zlq rfl) (zlq rfl) (⟨by unfold tCtx; rw [if_pos c1]; rfl, rfl⟩)
  · refine z_iload_n d_M_isContext_4 rfl ?_
    refine z_aload_n d_M_isContext_5 rfl ?_
    refine z_get fa_M_163 d_M_isContext_6 (tp_o hA) rfl ?_
    refine z_if_ne (tgt := 16) d_M_isContext_9 (by decide) (fun c9 => ?_) (fun c9 => ?_)
    · refine z_aload_n d_M_isContext_16 rfl ?_
      refine z_get fa_M_160 d_M_isContext_17 (tp_o hA) rfl ?_
      refine z_top h16 ?_
      refine z_icmp_gt (tgt := 27) d_M_isContext_20 (by decide) (fun c20 => ?_) (fun c20 => ?_)
      · refine z_iconst d_M_isContext_27 ic_0 ?_
        exact z_zret rfl nz_0 d_M_isContext_28 (zlq rfl) (zlq rfl) (⟨by unfold tCtx; rw [if_neg c1, if_neg c9, if_pos c20]; rfl, rfl⟩)
      · refine z_iconst d_M_isContext_23 ic_1 ?_
        refine z_goto (tgt := 28) d_M_isContext_24 (by decide) ?_
        exact z_zret rfl nz_1 d_M_isContext_28 (zlq rfl) (zlq rfl) (⟨by unfold tCtx; rw [if_neg c1, if_neg c9, if_neg c20]; rfl, rfl⟩)
    · refine z_iconst d_M_isContext_12 ic_0 ?_
      refine z_goto (tgt := 20) d_M_isContext_13 (by decide) ?_
      refine z_icmp_gt (tgt := 27) d_M_isContext_20 (by decide) (fun c20 => ?_) (fun c20 => ?_)
      · refine z_iconst d_M_isContext_27 ic_0 ?_
        exact z_zret rfl nz_0 d_M_isContext_28 (zlq rfl) (zlq rfl) (⟨by unfold tCtx; rw [if_neg c1, if_pos c9, if_pos c20]; rfl, rfl⟩)
      · refine z_iconst d_M_isContext_23 ic_1 ?_
        refine z_goto (tgt := 28) d_M_isContext_24 (by decide) ?_
        exact z_zret rfl nz_1 d_M_isContext_28 (zlq rfl) (zlq rfl) (⟨by unfold tCtx; rw [if_neg c1, if_pos c9, if_neg c20]; rfl, rfl⟩)
abbrev rm_M_points : Room := { frames := 5, cells := 0, slots := 0, locals := 125 }
set_option maxHeartbeats 4000000 in
set_option maxRecDepth 100000 in
theorem c_M_points (l : Launch) (E : zE) {A : Nat → Nat} (hA : tmI A) (X : zSt) (hX : tInv X) (F : Nat) (hF : tFu F X) (m c n : Int32) : zM l E y_M_points b_M_points 4 ((some .int)) rm_M_points [.ref (A 44), .int m, .int c, .int n] (tp E A X) (zPi (tPts F X m c n).1 (tp E A (tPts F X m c n).2)) := by
  refine zM_w (by decide +kernel) rfl rfl (fun sz => ?_)
  obtain ⟨⟨⟨h0, b0⟩, ⟨h2, b2⟩, ⟨h4, b4⟩, ⟨h7, b7⟩, ⟨h16, b16⟩⟩, h18, h19, hp, hf, hs, hst⟩ := id hX
  refine z_aload_n d_M_points_0 rfl ?_
  refine z_iload_n d_M_points_1 rfl ?_
  refine z_cVi (c_M_isMethod l E hA _ _) cb_M_isMethod ci_M_isMethod ln_M_150 (tp_o hA) rfl rfl (zlq rfl) rfl (zlq rfl) (zlq rfl) d_M_points_2 ?_
  refine z_if_eq (tgt := 28) d_M_points_5 (by decide) (fun c5 => ?_) (fun c5 => ?_)
  · have c5n := bI_e.mp c5
    refine z_iconst (v := -1) d_M_points_28 ic_m1 ?_
    exact z_iret rfl d_M_points_29 (zlq rfl) (zlq rfl) (by unfold tPts; rw [if_neg (zbf c5n)]; exact ⟨rfl, rfl⟩)
  · have c5n := bI_n.mp c5
    refine z_iload_n d_M_points_8 rfl ?_
    refine z_cSi (c_M_isName l E _ _) cb_M_isName cs_M_isName ln_M_141 rfl rfl (zlq rfl) rfl (zlq rfl) (zlq rfl) d_M_points_9 ?_
    refine z_if_eq (tgt := 28) d_M_points_12 (by decide) (fun c12 => ?_) (fun c12 => ?_)
    · have c12n := bI_e.mp c12
      refine z_iconst (v := -1) d_M_points_28 ic_m1 ?_
      exact z_iret rfl d_M_points_29 (zlq rfl) (zlq rfl) (by unfold tPts; rw [if_pos c5n, if_neg (zbf c12n)]; exact ⟨rfl, rfl⟩)
    · have c12n := bI_n.mp c12
      refine z_iload_n d_M_points_15 rfl ?_
      refine z_iconst (v := -1) d_M_points_16 ic_m1 ?_
      refine z_icmp_eq (tgt := 30) d_M_points_17 (by decide) (fun c17 => ?_) (fun c17 => ?_)
      · obtain ⟨mj, hmj, rfl⟩ := tIn_nat c5n h4 (by omega)
        obtain ⟨nj, hnj, rfl⟩ := tIn_nat c12n rfl (by omega)
        subst c17
        refine z_aload_n d_M_points_30 rfl ?_
        refine z_cVv (c_M_know l E hA _ hX F hF) cb_M_know ci_M_know ln_M_213 (tp_o hA) rfl rfl (zlq rfl) rfl (zlq rfl) (zlq rfl) d_M_points_31 ?_
        refine z_iload_n d_M_points_34 rfl ?_
        refine z_if_ge (tgt := 47) d_M_points_35 (by decide) (fun q => absurd q zneg2) (fun _ => ?_)
        refine z_aload_n d_M_points_38 rfl ?_
        refine z_iload_n d_M_points_39 rfl ?_
        refine z_iload_n d_M_points_40 rfl ?_
        refine z_cVi (c_M_allOf l E hA _ (mj) (nj) (by omega) (by omega)) cb_M_allOf ci_M_allOf ln_M_183 (tp_o hA) rfl rfl (zlq rfl) rfl (zlq rfl) (zlq rfl) d_M_points_41 ?_
        refine z_goto (tgt := 58) d_M_points_44 (by decide) ?_
        exact z_iret rfl d_M_points_58 (zlq rfl) (zlq rfl) (by unfold tPts; rw [if_pos c5n, if_pos c12n, if_pos rfl]; (try rw [nI_clamp (show mj < 2 ^ 31 by omega), nI_clamp (show nj < 2 ^ 31 by omega)]); exact ⟨rfl, rfl⟩)
      · refine z_aload_n d_M_points_20 rfl ?_
        refine z_iload_n d_M_points_21 rfl ?_
        refine z_cVi (c_M_isContext l E hA _ hX _) cb_M_isContext ci_M_isContext ln_M_210 (tp_o hA) rfl rfl (zlq rfl) rfl (zlq rfl) (zlq rfl) d_M_points_22 ?_
        refine z_if_ne (tgt := 30) d_M_points_25 (by decide) (fun c25 => ?_) (fun c25 => ?_)
        · have c25n := bI_n.mp c25
          obtain ⟨mj, hmj, rfl⟩ := tIn_nat c5n h4 (by omega)
          obtain ⟨nj, hnj, rfl⟩ := tIn_nat c12n rfl (by omega)
          obtain ⟨cj, hcj, rfl⟩ := tCtx_nat c25n b16
          refine z_aload_n d_M_points_30 rfl ?_
          refine z_cVv (c_M_know l E hA _ hX F hF) cb_M_know ci_M_know ln_M_213 (tp_o hA) rfl rfl (zlq rfl) rfl (zlq rfl) (zlq rfl) d_M_points_31 ?_
          refine z_iload_n d_M_points_34 rfl ?_
          refine z_if_ge (tgt := 47) d_M_points_35 (by decide) (fun _ => ?_) (fun q => absurd (nI_pos' (by omega)) q)
          refine z_aload_n d_M_points_47 rfl ?_
          refine z_get fa_M_49 d_M_points_48 (tp_o hA) rfl ?_
          refine z_iload_n d_M_points_51 rfl ?_
          refine z_iload_n d_M_points_52 rfl ?_
          refine z_iload_n d_M_points_53 rfl ?_
          refine z_cSi (c_M_nameAt l E _ (mj) (cj) (nj)) cb_M_nameAt cs_M_nameAt ln_M_166 rfl rfl (zlq rfl) rfl (zlq rfl) (zlq rfl) d_M_points_54 ?_
          refine z_iald (126 * (mj) + 6 * (cj) + nj) d_M_points_57 (tp_a hA 20 rfl) rfl (show 126 * (mj) + 6 * (cj) + nj < 1260 from by omega) (by decide) ?_
          exact z_iret rfl d_M_points_58 (zlq rfl) (zlq rfl) (by unfold tPts; rw [if_pos c5n, if_pos c12n, if_neg c17, if_pos c25n]; (try rw [nI_clamp (show mj < 2 ^ 31 by omega), nI_clamp (show nj < 2 ^ 31 by omega), nI_clamp (show cj < 2 ^ 31 by omega)]); exact ⟨rfl, rfl⟩)
        · have c25n := bI_e.mp c25
          refine z_iconst (v := -1) d_M_points_28 ic_m1 ?_
          exact z_iret rfl d_M_points_29 (zlq rfl) (zlq rfl) (by unfold tPts; rw [if_pos c5n, if_pos c12n, if_neg c17, if_neg (zbf c25n)]; exact ⟨rfl, rfl⟩)
abbrev rm_M_inField : Room := { frames := 5, cells := 0, slots := 0, locals := 125 }
set_option maxHeartbeats 4000000 in
set_option maxRecDepth 100000 in
theorem c_M_inField (l : Launch) (E : zE) {A : Nat → Nat} (hA : tmI A) (X : zSt) (hX : tInv X) (F : Nat) (hF : tFu F X) (o g : Int32) : zM l E y_M_inField b_M_inField 3 ((some .int)) rm_M_inField [.ref (A 44), .int o, .int g] (tp E A X) (zPi (tInF F X o g).1 (tp E A (tInF F X o g).2)) := by
  refine zM_w (by decide +kernel) rfl rfl (fun sz => ?_)
  obtain ⟨⟨⟨h0, b0⟩, ⟨h2, b2⟩, ⟨h4, b4⟩, ⟨h7, b7⟩, ⟨h16, b16⟩⟩, h18, h19, hp, hf, hs, hst⟩ := id hX
  refine z_aload_n d_M_inField_0 rfl ?_
  refine z_iload_n d_M_inField_1 rfl ?_
  refine z_cVi (c_M_isSite l E hA _ _) cb_M_isSite ci_M_isSite ln_M_216 (tp_o hA) rfl rfl (zlq rfl) rfl (zlq rfl) (zlq rfl) d_M_inField_2 ?_
  refine z_if_eq (tgt := 16) d_M_inField_5 (by decide) (fun c5 => ?_) (fun c5 => ?_)
  · have c5n := bI_e.mp c5
    refine z_iconst (v := -1) d_M_inField_16 ic_m1 ?_
    exact z_iret rfl d_M_inField_17 (zlq rfl) (zlq rfl) (by unfold tInF; rw [if_neg (zbf c5n)]; exact ⟨rfl, rfl⟩)
  · have c5n := bI_n.mp c5
    refine z_aload_n d_M_inField_8 rfl ?_
    refine z_iload_n d_M_inField_9 rfl ?_
    refine z_cVi (c_M_isField l E hA _ _) cb_M_isField ci_M_isField ln_M_144 (tp_o hA) rfl rfl (zlq rfl) rfl (zlq rfl) (zlq rfl) d_M_inField_10 ?_
    refine z_if_ne (tgt := 18) d_M_inField_13 (by decide) (fun c13 => ?_) (fun c13 => ?_)
    · have c13n := bI_n.mp c13
      obtain ⟨oj, hoj, rfl⟩ := tIn_nat c5n h16 (by omega)
      obtain ⟨gj, hgj, rfl⟩ := tIn_nat c13n h2 (by omega)
      refine z_aload_n d_M_inField_18 rfl ?_
      refine z_cVv (c_M_know l E hA _ hX F hF) cb_M_know ci_M_know ln_M_213 (tp_o hA) rfl rfl (zlq rfl) rfl (zlq rfl) (zlq rfl) d_M_inField_19 ?_
      refine z_aload_n d_M_inField_22 rfl ?_
      refine z_get fa_M_55 d_M_inField_23 (tp_o hA) rfl ?_
      refine z_bipush d_M_inField_26 bp_8 ?_
      refine z_iload_n d_M_inField_28 rfl ?_
      refine z_imul d_M_inField_29 ?_
      refine z_top (pk_mul (8) (oj)) ?_
      refine z_iload_n d_M_inField_30 rfl ?_
      refine z_iadd d_M_inField_31 ?_
      refine z_top (nI_add (8 * oj) (gj)) ?_
      refine z_iald (8 * oj + gj) d_M_inField_32 (tp_a hA 22 rfl) rfl (show 8 * oj + gj < 160 from by omega) (by decide) ?_
      exact z_iret rfl d_M_inField_33 (zlq rfl) (zlq rfl) (by unfold tInF; rw [if_pos c5n, if_pos c13n]; (try rw [nI_clamp (show oj < 2 ^ 31 by omega), nI_clamp (show gj < 2 ^ 31 by omega)]); exact ⟨rfl, rfl⟩)
    · have c13n := bI_e.mp c13
      refine z_iconst (v := -1) d_M_inField_16 ic_m1 ?_
      exact z_iret rfl d_M_inField_17 (zlq rfl) (zlq rfl) (by unfold tInF; rw [if_pos c5n, if_neg (zbf c13n)]; exact ⟨rfl, rfl⟩)
abbrev rm_M_element : Room := { frames := 5, cells := 0, slots := 0, locals := 125 }
set_option maxHeartbeats 4000000 in
set_option maxRecDepth 100000 in
theorem c_M_element (l : Launch) (E : zE) {A : Nat → Nat} (hA : tmI A) (X : zSt) (hX : tInv X) (F : Nat) (hF : tFu F X) (o : Int32) : zM l E y_M_element b_M_element 2 ((some .int)) rm_M_element [.ref (A 44), .int o] (tp E A X) (zPi (tElm F X o).1 (tp E A (tElm F X o).2)) := by
  refine zM_w (by decide +kernel) rfl rfl (fun sz => ?_)
  obtain ⟨⟨⟨h0, b0⟩, ⟨h2, b2⟩, ⟨h4, b4⟩, ⟨h7, b7⟩, ⟨h16, b16⟩⟩, h18, h19, hp, hf, hs, hst⟩ := id hX
  refine z_aload_n d_M_element_0 rfl ?_
  refine z_iload_n d_M_element_1 rfl ?_
  refine z_cVi (c_M_isSite l E hA _ _) cb_M_isSite ci_M_isSite ln_M_216 (tp_o hA) rfl rfl (zlq rfl) rfl (zlq rfl) (zlq rfl) d_M_element_2 ?_
  refine z_if_ne (tgt := 10) d_M_element_5 (by decide) (fun c5 => ?_) (fun c5 => ?_)
  · have c5n := bI_n.mp c5
    obtain ⟨oj, hoj, rfl⟩ := tIn_nat c5n h16 (by omega)
    refine z_aload_n d_M_element_10 rfl ?_
    refine z_cVv (c_M_know l E hA _ hX F hF) cb_M_know ci_M_know ln_M_213 (tp_o hA) rfl rfl (zlq rfl) rfl (zlq rfl) (zlq rfl) d_M_element_11 ?_
    refine z_aload_n d_M_element_14 rfl ?_
    refine z_get fa_M_61 d_M_element_15 (tp_o hA) rfl ?_
    refine z_iload_n d_M_element_18 rfl ?_
    refine z_iald (oj) d_M_element_19 (tp_a hA 24 rfl) rfl (show oj < 20 from by omega) (by decide) ?_
    exact z_iret rfl d_M_element_20 (zlq rfl) (zlq rfl) (by unfold tElm; rw [if_pos c5n]; (try rw [nI_clamp (show oj < 2 ^ 31 by omega)]); exact ⟨rfl, rfl⟩)
  · have c5n := bI_e.mp c5
    refine z_iconst (v := -1) d_M_element_8 ic_m1 ?_
    exact z_iret rfl d_M_element_9 (zlq rfl) (zlq rfl) (by unfold tElm; rw [if_neg (zbf c5n)]; exact ⟨rfl, rfl⟩)
abbrev rm_M_inStatic : Room := { frames := 5, cells := 0, slots := 0, locals := 125 }
set_option maxHeartbeats 4000000 in
set_option maxRecDepth 100000 in
theorem c_M_inStatic (l : Launch) (E : zE) {A : Nat → Nat} (hA : tmI A) (X : zSt) (hX : tInv X) (F : Nat) (hF : tFu F X) (o : Int32) : zM l E y_M_inStatic b_M_inStatic 2 ((some .int)) rm_M_inStatic [.ref (A 44), .int o] (tp E A X) (zPi (tSta F X o).1 (tp E A (tSta F X o).2)) := by
  refine zM_w (by decide +kernel) rfl rfl (fun sz => ?_)
  obtain ⟨⟨⟨h0, b0⟩, ⟨h2, b2⟩, ⟨h4, b4⟩, ⟨h7, b7⟩, ⟨h16, b16⟩⟩, h18, h19, hp, hf, hs, hst⟩ := id hX
  refine z_iload_n d_M_inStatic_0 rfl ?_
  refine z_cSi (c_M_isStatic l E _ _) cb_M_isStatic cs_M_isStatic ln_M_147 rfl rfl (zlq rfl) rfl (zlq rfl) (zlq rfl) d_M_inStatic_1 ?_
  refine z_if_ne (tgt := 9) d_M_inStatic_4 (by decide) (fun c4 => ?_) (fun c4 => ?_)
  · have c4n := bI_n.mp c4
    obtain ⟨oj, hoj, rfl⟩ := tIn_nat c4n rfl (by omega)
    refine z_aload_n d_M_inStatic_9 rfl ?_
    refine z_cVv (c_M_know l E hA _ hX F hF) cb_M_know ci_M_know ln_M_213 (tp_o hA) rfl rfl (zlq rfl) rfl (zlq rfl) (zlq rfl) d_M_inStatic_10 ?_
    refine z_aload_n d_M_inStatic_13 rfl ?_
    refine z_get fa_M_67 d_M_inStatic_14 (tp_o hA) rfl ?_
    refine z_iload_n d_M_inStatic_17 rfl ?_
    refine z_iald (oj) d_M_inStatic_18 (tp_a hA 26 rfl) rfl (show oj < 4 from by omega) (by decide) ?_
    exact z_iret rfl d_M_inStatic_19 (zlq rfl) (zlq rfl) (by unfold tSta; rw [if_pos c4n]; (try rw [nI_clamp (show oj < 2 ^ 31 by omega)]); exact ⟨rfl, rfl⟩)
  · have c4n := bI_e.mp c4
    refine z_iconst (v := -1) d_M_inStatic_7 ic_m1 ?_
    exact z_iret rfl d_M_inStatic_8 (zlq rfl) (zlq rfl) (by unfold tSta; rw [if_neg (zbf c4n)]; exact ⟨rfl, rfl⟩)
abbrev rm_M_rounds : Room := { frames := 5, cells := 0, slots := 0, locals := 125 }
set_option maxHeartbeats 4000000 in
set_option maxRecDepth 100000 in
theorem c_M_rounds (l : Launch) (E : zE) {A : Nat → Nat} (hA : tmI A) (X : zSt) (hX : tInv X) (F : Nat) (hF : tFu F X) : zM l E y_M_rounds b_M_rounds 1 ((some .int)) rm_M_rounds [.ref (A 44)] (tp E A X) (zPi (tRds F X).1 (tp E A (tRds F X).2)) := by
  refine zM_w (by decide +kernel) rfl rfl (fun sz => ?_)
  obtain ⟨⟨⟨h0, b0⟩, ⟨h2, b2⟩, ⟨h4, b4⟩, ⟨h7, b7⟩, ⟨h16, b16⟩⟩, h18, h19, hp, hf, hs, hst⟩ := id hX
  refine z_aload_n d_M_rounds_0 rfl ?_
  refine z_cVv (c_M_know l E hA _ hX F hF) cb_M_know ci_M_know ln_M_213 (tp_o hA) rfl rfl (zlq rfl) rfl (zlq rfl) (zlq rfl) d_M_rounds_1 ?_
  refine z_aload_n d_M_rounds_4 rfl ?_
  refine z_get fa_M_189 d_M_rounds_5 (tp_o hA) rfl ?_
  exact z_iret rfl d_M_rounds_8 (zlq rfl) (zlq rfl) (by unfold tRds; exact ⟨rfl, rfl⟩)
abbrev rm_M_alias : Room := { frames := 5, cells := 0, slots := 0, locals := 125 }
set_option maxHeartbeats 4000000 in
set_option maxRecDepth 100000 in
theorem c_M_alias (l : Launch) (E : zE) {A : Nat → Nat} (hA : tmI A) (X : zSt) (hX : tInv X) (F : Nat) (hF : tFu F X) (m n m2 n2 : Int32) : zM l E y_M_alias b_M_alias 5 ((some .int)) rm_M_alias [.ref (A 44), .int m, .int n, .int m2, .int n2] (tp E A X) (zPi (tAli F X m n m2 n2).1 (tp E A (tAli F X m n m2 n2).2)) := by
  refine zM_w (by decide +kernel) rfl rfl (fun sz => ?_)
  obtain ⟨⟨⟨h0, b0⟩, ⟨h2, b2⟩, ⟨h4, b4⟩, ⟨h7, b7⟩, ⟨h16, b16⟩⟩, h18, h19, hp, hf, hs, hst⟩ := id hX
  refine z_aload_n d_M_alias_0 rfl ?_
  refine z_iload_n d_M_alias_1 rfl ?_
  refine z_cVi (c_M_isMethod l E hA _ _) cb_M_isMethod ci_M_isMethod ln_M_150 (tp_o hA) rfl rfl (zlq rfl) rfl (zlq rfl) (zlq rfl) d_M_alias_2 ?_
  refine z_if_eq (tgt := 31) d_M_alias_5 (by decide) (fun c5 => ?_) (fun c5 => ?_)
  · have c5n := bI_e.mp c5
    refine z_iconst (v := -1) d_M_alias_31 ic_m1 ?_
    exact z_iret rfl d_M_alias_32 (zlq rfl) (zlq rfl) (by unfold tAli; rw [if_neg (zbf c5n)]; exact ⟨rfl, rfl⟩)
  · have c5n := bI_n.mp c5
    refine z_iload_n d_M_alias_8 rfl ?_
    refine z_cSi (c_M_isName l E _ _) cb_M_isName cs_M_isName ln_M_141 rfl rfl (zlq rfl) rfl (zlq rfl) (zlq rfl) d_M_alias_9 ?_
    refine z_if_eq (tgt := 31) d_M_alias_12 (by decide) (fun c12 => ?_) (fun c12 => ?_)
    · have c12n := bI_e.mp c12
      refine z_iconst (v := -1) d_M_alias_31 ic_m1 ?_
      exact z_iret rfl d_M_alias_32 (zlq rfl) (zlq rfl) (by unfold tAli; rw [if_pos c5n, if_neg (zbf c12n)]; exact ⟨rfl, rfl⟩)
    · have c12n := bI_n.mp c12
      refine z_aload_n d_M_alias_15 rfl ?_
      refine z_iload_n d_M_alias_16 rfl ?_
      refine z_cVi (c_M_isMethod l E hA _ _) cb_M_isMethod ci_M_isMethod ln_M_150 (tp_o hA) rfl rfl (zlq rfl) rfl (zlq rfl) (zlq rfl) d_M_alias_17 ?_
      refine z_if_eq (tgt := 31) d_M_alias_20 (by decide) (fun c20 => ?_) (fun c20 => ?_)
      · have c20n := bI_e.mp c20
        refine z_iconst (v := -1) d_M_alias_31 ic_m1 ?_
        exact z_iret rfl d_M_alias_32 (zlq rfl) (zlq rfl) (by unfold tAli; rw [if_pos c5n, if_pos c12n, if_neg (zbf c20n)]; exact ⟨rfl, rfl⟩)
      · have c20n := bI_n.mp c20
        refine z_iload d_M_alias_23 rfl ?_
        refine z_cSi (c_M_isName l E _ _) cb_M_isName cs_M_isName ln_M_141 rfl rfl (zlq rfl) rfl (zlq rfl) (zlq rfl) d_M_alias_25 ?_
        refine z_if_ne (tgt := 33) d_M_alias_28 (by decide) (fun c28 => ?_) (fun c28 => ?_)
        · have c28n := bI_n.mp c28
          obtain ⟨mj, hmj, rfl⟩ := tIn_nat c5n h4 (by omega)
          obtain ⟨nj, hnj, rfl⟩ := tIn_nat c12n rfl (by omega)
          obtain ⟨m2j, hm2j, rfl⟩ := tIn_nat c20n h4 (by omega)
          obtain ⟨n2j, hn2j, rfl⟩ := tIn_nat c28n rfl (by omega)
          refine z_aload_n d_M_alias_33 rfl ?_
          refine z_cVv (c_M_know l E hA _ hX F hF) cb_M_know ci_M_know ln_M_213 (tp_o hA) rfl rfl (zlq rfl) rfl (zlq rfl) (zlq rfl) d_M_alias_34 ?_
          refine z_aload_n d_M_alias_37 rfl ?_
          refine z_iload_n d_M_alias_38 rfl ?_
          refine z_iload_n d_M_alias_39 rfl ?_
          refine z_cVi (c_M_allOf l E hA _ (mj) (nj) (by omega) (by omega)) cb_M_allOf ci_M_allOf ln_M_183 (tp_o hA) rfl rfl (zlq rfl) rfl (zlq rfl) (zlq rfl) d_M_alias_40 ?_
          refine z_aload_n d_M_alias_43 rfl ?_
          refine z_iload_n d_M_alias_44 rfl ?_
          refine z_iload d_M_alias_45 rfl ?_
          refine z_cVi (c_M_allOf l E hA _ (m2j) (n2j) (by omega) (by omega)) cb_M_allOf ci_M_allOf ln_M_183 (tp_o hA) rfl rfl (zlq rfl) rfl (zlq rfl) (zlq rfl) d_M_alias_47 ?_
          refine z_iand d_M_alias_50 ?_
          refine z_if_eq (tgt := 58) d_M_alias_51 (by decide) (fun c51 => ?_) (fun c51 => ?_)
          · refine z_iconst d_M_alias_58 ic_0 ?_
            exact z_iret rfl d_M_alias_59 (zlq rfl) (zlq rfl) (by unfold tAli; rw [if_pos c5n, if_pos c12n, if_pos c20n, if_pos c28n]; rw [nI_clamp (show mj < 2 ^ 31 by omega), nI_clamp (show nj < 2 ^ 31 by omega), nI_clamp (show m2j < 2 ^ 31 by omega), nI_clamp (show n2j < 2 ^ 31 by omega)]; rw [if_pos c51]; exact ⟨rfl, rfl⟩)
          · refine z_iconst d_M_alias_54 ic_1 ?_
            refine z_goto (tgt := 59) d_M_alias_55 (by decide) ?_
            exact z_iret rfl d_M_alias_59 (zlq rfl) (zlq rfl) (by unfold tAli; rw [if_pos c5n, if_pos c12n, if_pos c20n, if_pos c28n]; rw [nI_clamp (show mj < 2 ^ 31 by omega), nI_clamp (show nj < 2 ^ 31 by omega), nI_clamp (show m2j < 2 ^ 31 by omega), nI_clamp (show n2j < 2 ^ 31 by omega)]; rw [if_neg c51]; exact ⟨rfl, rfl⟩)
        · have c28n := bI_e.mp c28
          refine z_iconst (v := -1) d_M_alias_31 ic_m1 ?_
          exact z_iret rfl d_M_alias_32 (zlq rfl) (zlq rfl) (by unfold tAli; rw [if_pos c5n, if_pos c12n, if_pos c20n, if_neg (zbf c28n)]; exact ⟨rfl, rfl⟩)
abbrev rm_M_when : Room := { frames := 5, cells := 0, slots := 0, locals := 125 }
set_option maxHeartbeats 4000000 in
set_option maxRecDepth 100000 in
theorem c_M_when (l : Launch) (E : zE) {A : Nat → Nat} (hA : tmI A) (X : zSt) (hX : tInv X) (F : Nat) (hF : tFu F X) (m n o : Int32) : zM l E y_M_when b_M_when 5 ((some .int)) rm_M_when [.ref (A 44), .int m, .int n, .int o] (tp E A X) (zPi (tWhn F X m n o).1 (tp E A (tWhn F X m n o).2)) := by
  refine zM_w (by decide +kernel) rfl rfl (fun sz => ?_)
  obtain ⟨⟨⟨h0, b0⟩, ⟨h2, b2⟩, ⟨h4, b4⟩, ⟨h7, b7⟩, ⟨h16, b16⟩⟩, h18, h19, hp, hf, hs, hst⟩ := id hX
  refine z_aload_n d_M_when_0 rfl ?_
  refine z_iload_n d_M_when_1 rfl ?_
  refine z_cVi (c_M_isMethod l E hA _ _) cb_M_isMethod ci_M_isMethod ln_M_150 (tp_o hA) rfl rfl (zlq rfl) rfl (zlq rfl) (zlq rfl) d_M_when_2 ?_
  refine z_if_eq (tgt := 23) d_M_when_5 (by decide) (fun c5 => ?_) (fun c5 => ?_)
  · have c5n := bI_e.mp c5
    refine z_iconst (v := -1) d_M_when_23 ic_m1 ?_
    exact z_iret rfl d_M_when_24 (zlq rfl) (zlq rfl) (by unfold tWhn; rw [if_neg (zbf c5n)]; exact ⟨rfl, rfl⟩)
  · have c5n := bI_n.mp c5
    refine z_iload_n d_M_when_8 rfl ?_
    refine z_cSi (c_M_isName l E _ _) cb_M_isName cs_M_isName ln_M_141 rfl rfl (zlq rfl) rfl (zlq rfl) (zlq rfl) d_M_when_9 ?_
    refine z_if_eq (tgt := 23) d_M_when_12 (by decide) (fun c12 => ?_) (fun c12 => ?_)
    · have c12n := bI_e.mp c12
      refine z_iconst (v := -1) d_M_when_23 ic_m1 ?_
      exact z_iret rfl d_M_when_24 (zlq rfl) (zlq rfl) (by unfold tWhn; rw [if_pos c5n, if_neg (zbf c12n)]; exact ⟨rfl, rfl⟩)
    · have c12n := bI_n.mp c12
      refine z_aload_n d_M_when_15 rfl ?_
      refine z_iload_n d_M_when_16 rfl ?_
      refine z_cVi (c_M_isSite l E hA _ _) cb_M_isSite ci_M_isSite ln_M_216 (tp_o hA) rfl rfl (zlq rfl) rfl (zlq rfl) (zlq rfl) d_M_when_17 ?_
      refine z_if_ne (tgt := 25) d_M_when_20 (by decide) (fun c20 => ?_) (fun c20 => ?_)
      · have c20n := bI_n.mp c20
        obtain ⟨mj, hmj, rfl⟩ := tIn_nat c5n h4 (by omega)
        obtain ⟨nj, hnj, rfl⟩ := tIn_nat c12n rfl (by omega)
        obtain ⟨oj, hoj, rfl⟩ := tIn_nat c20n h16 (by omega)
        refine z_aload_n d_M_when_25 rfl ?_
        refine z_cVv (c_M_know l E hA _ hX F hF) cb_M_know ci_M_know ln_M_213 (tp_o hA) rfl rfl (zlq rfl) rfl (zlq rfl) (zlq rfl) d_M_when_26 ?_
        refine z_aload_n d_M_when_29 rfl ?_
        refine z_get fa_M_79 d_M_when_30 (tp_o hA) rfl ?_
        refine z_bipush d_M_when_33 bp_120 ?_
        refine z_iload_n d_M_when_35 rfl ?_
        refine z_imul d_M_when_36 ?_
        refine z_top (pk_mul (120) (mj)) ?_
        refine z_bipush d_M_when_37 bp_20 ?_
        refine z_iload_n d_M_when_39 rfl ?_
        refine z_imul d_M_when_40 ?_
        refine z_top (pk_mul (20) (nj)) ?_
        refine z_iadd d_M_when_41 ?_
        refine z_top (nI_add (120 * mj) (20 * nj)) ?_
        refine z_iload_n d_M_when_42 rfl ?_
        refine z_iadd d_M_when_43 ?_
        refine z_top (nI_add (120 * mj + (20 * nj)) (oj)) ?_
        refine z_iald (120 * mj + (20 * nj) + oj) d_M_when_44 (tp_a hA 30 rfl) rfl (show 120 * mj + (20 * nj) + oj < 1200 from by omega) (by decide) ?_
        refine z_istore d_M_when_45 (zlt rfl) ?_
        refine z_iload d_M_when_47 rfl ?_
        refine z_if_ge (tgt := 57) d_M_when_49 (by decide) (fun c49 => ?_) (fun c49 => ?_)
        · refine z_iload d_M_when_57 rfl ?_
          exact z_iret rfl d_M_when_59 (zlq rfl) (zlq rfl) (by unfold tWhn; rw [if_pos c5n, if_pos c12n, if_pos c20n]; rw [nI_clamp (show mj < 2 ^ 31 by omega), nI_clamp (show nj < 2 ^ 31 by omega), nI_clamp (show oj < 2 ^ 31 by omega)]; rw [if_pos c49]; exact ⟨rfl, rfl⟩)
        · refine z_bipush (v := -3) d_M_when_52 bp_m3 ?_
          refine z_goto (tgt := 59) d_M_when_54 (by decide) ?_
          exact z_iret rfl d_M_when_59 (zlq rfl) (zlq rfl) (by unfold tWhn; rw [if_pos c5n, if_pos c12n, if_pos c20n]; rw [nI_clamp (show mj < 2 ^ 31 by omega), nI_clamp (show nj < 2 ^ 31 by omega), nI_clamp (show oj < 2 ^ 31 by omega)]; rw [if_neg c49]; exact ⟨rfl, rfl⟩)
      · have c20n := bI_e.mp c20
        refine z_iconst (v := -1) d_M_when_23 ic_m1 ?_
        exact z_iret rfl d_M_when_24 (zlq rfl) (zlq rfl) (by unfold tWhn; rw [if_pos c5n, if_pos c12n, if_neg (zbf c20n)]; exact ⟨rfl, rfl⟩)
abbrev rm_M_reached : Room := { frames := 5, cells := 0, slots := 0, locals := 125 }
set_option maxHeartbeats 4000000 in
set_option maxRecDepth 100000 in
theorem c_M_reached (l : Launch) (E : zE) {A : Nat → Nat} (hA : tmI A) (X : zSt) (hX : tInv X) (F : Nat) (hF : tFu F X) (m : Int32) : zM l E y_M_reached b_M_reached 4 ((some .int)) rm_M_reached [.ref (A 44), .int m] (tp E A X) (zPi (tRch F X m).1 (tp E A (tRch F X m).2)) := by
  refine zM_w (by decide +kernel) rfl rfl (fun sz => ?_)
  obtain ⟨⟨⟨h0, b0⟩, ⟨h2, b2⟩, ⟨h4, b4⟩, ⟨h7, b7⟩, ⟨h16, b16⟩⟩, h18, h19, hp, hf, hs, hst⟩ := id hX
  refine z_aload_n d_M_reached_0 rfl ?_
  refine z_iload_n d_M_reached_1 rfl ?_
  refine z_cVi (c_M_isMethod l E hA _ _) cb_M_isMethod ci_M_isMethod ln_M_150 (tp_o hA) rfl rfl (zlq rfl) rfl (zlq rfl) (zlq rfl) d_M_reached_2 ?_
  refine z_if_ne (tgt := 10) d_M_reached_5 (by decide) (fun c5 => ?_) (fun c5 => ?_)
  · have c5n := bI_n.mp c5
    obtain ⟨mj, hmj, rfl⟩ := tIn_nat c5n h4 (by omega)
    refine z_aload_n d_M_reached_10 rfl ?_
    refine z_cVv (c_M_know l E hA _ hX F hF) cb_M_know ci_M_know ln_M_213 (tp_o hA) rfl rfl (zlq rfl) rfl (zlq rfl) (zlq rfl) d_M_reached_11 ?_
    refine z_iconst d_M_reached_14 ic_0 ?_
    refine z_istore_n d_M_reached_15 (zlt rfl) ?_
    refine z_iconst d_M_reached_16 ic_0 ?_
    refine z_istore_n d_M_reached_17 (zlt rfl) ?_
    refine zlp (Gh := fun (kz : Nat) (z : Int32) => zG (zcx l E b_M_reached "PointsToRoundsModel" 4 ((some .int)) false rm_M_reached (tp E A X) sz (zPi (tRch F X (nI mj)).1 (tp E A (tRch F X (nI mj)).2))) 0 0 18 [some (.ref (A 44)), some (.int (nI (mj))), some (.int (z)), some (.int (nI (kz)))] [] (tp E A (tKnow F X))) (f := fun k z => z + (tKnow F X 28 (mj) >>> (nI k &&& 31) &&& nI 1)) (N := 21) (x0 := nI 0) ?_ ?_
    rotate_left
    · intro c hc ihc
      generalize zit _ c _ = zc at ihc ⊢
      show zG (zcx l E b_M_reached "PointsToRoundsModel" 4 ((some .int)) false rm_M_reached (tp E A X) sz (zPi (tRch F X (nI mj)).1 (tp E A (tRch F X (nI mj)).2))) 0 0 18 [some (.ref (A 44)), some (.int (nI (mj))), some (.int (zc)), some (.int (nI (c)))] [] (tp E A (tKnow F X))
      try dsimp only at ihc
      refine z_iload_n d_M_reached_18 rfl ?_
      refine z_bipush d_M_reached_19 bp_21 ?_
      refine z_icmp_ge (tgt := 43) d_M_reached_21 (by decide) (fun c21 => absurd c21 (nI_ge hc (by omega))) (fun c21 => ?_)
      have c21n := (not_congr (nI_leI (by omega) (by omega))).mp c21
      refine z_iload_n d_M_reached_24 rfl ?_
      refine z_aload_n d_M_reached_25 rfl ?_
      refine z_get fa_M_73 d_M_reached_26 (tp_o hA) rfl ?_
      refine z_iload_n d_M_reached_29 rfl ?_
      refine z_iald (mj) d_M_reached_30 (tp_a hA 28 rfl) rfl (show mj < 10 from by omega) (by decide) ?_
      refine z_iload_n d_M_reached_31 rfl ?_
      refine z_ishr d_M_reached_32 ?_
      refine z_iconst d_M_reached_33 ic_1 ?_
      refine z_iand d_M_reached_34 ?_
      refine z_iadd d_M_reached_35 ?_
      refine z_istore_n d_M_reached_36 (zlt rfl) ?_
      refine z_iinc (v := nI (c + 1)) d_M_reached_37 (zlt rfl) rfl (zinc _) ?_
      refine z_goto (tgt := 18) d_M_reached_40 (by decide) ?_
      exact ihc
    show zG (zcx l E b_M_reached "PointsToRoundsModel" 4 ((some .int)) false rm_M_reached (tp E A X) sz (zPi (tRch F X (nI mj)).1 (tp E A (tRch F X (nI mj)).2))) 0 0 18 [some (.ref (A 44)), some (.int (nI (mj))), some (.int (zit (fun k z => z + (tKnow F X 28 (mj) >>> (nI k &&& 31) &&& nI 1)) (21) (nI 0))), some (.int (nI 21))] [] (tp E A (tKnow F X))
    refine z_iload_n d_M_reached_18 rfl ?_
    refine z_bipush d_M_reached_19 bp_21 ?_
    refine z_icmp_ge (tgt := 43) d_M_reached_21 (by decide) (fun c21 => ?_) (fun c21 => absurd (by decide +kernel) c21)
    refine z_iload_n d_M_reached_43 rfl ?_
    exact z_iret rfl d_M_reached_44 (zlq rfl) (zlq rfl) (by unfold tRch; rw [if_pos c5n]; (try rw [nI_clamp (show mj < 2 ^ 31 by omega)]); exact ⟨rfl, rfl⟩)
  · have c5n := bI_e.mp c5
    refine z_iconst (v := -1) d_M_reached_8 ic_m1 ?_
    exact z_iret rfl d_M_reached_9 (zlq rfl) (zlq rfl) (by unfold tRch; rw [if_neg (zbf c5n)]; exact ⟨rfl, rfl⟩)
theorem c_M_isUnderZ (l : Launch) (E : zE) {A : Nat → Nat} (hA : tmI A) {X Y : zSt} (hY : ∀ j, j ≤ 18 → Y j = X j) (hI : tInv Y) (c a : Int32) (hc : c = -1 ∨ ∃ j, j < cn X 0 ∧ c = nI j) : zM l E y_M_isUnder b_M_isUnder 4 (some .boolean) rm_M_isUnder [.ref (A 44), .int c, .int a] (tp E A Y) (zPi (bI (und X 9 c a)) (tp E A Y)) := by
  have h := c_M_isUnder l E hA Y hI c a (by unfold cn at hc ⊢; rw [hY 0 (by omega)]; exact hc)
  rw [und_c (hY 1 (by omega))] at h
  exact h
theorem c_M_foundZ (l : Launch) (E : zE) {A : Nat → Nat} (hA : tmI A) {X Y : zSt} (hY : ∀ j, j ≤ 18 → Y j = X j) (hI : tInv Y) (c g : Int32) (hc : c = -1 ∨ ∃ j, j < cn X 0 ∧ c = nI j) : zM l E y_M_found b_M_found 5 (some .int) rm_M_found [.ref (A 44), .int c, .int g] (tp E A Y) (zPi (fdf X g 9 c) (tp E A Y)) := by
  have h := c_M_found l E hA Y hI c g (by unfold cn at hc ⊢; rw [hY 0 (by omega)]; exact hc)
  rw [fdf_c (hY 1 (by omega)) (hY 4 (by omega)) (hY 5 (by omega)) (hY 6 (by omega))] at h
  exact h
abbrev rm_M_may : Room := { frames := 5, cells := 0, slots := 0, locals := 125 }
set_option maxHeartbeats 4000000 in
set_option maxRecDepth 100000 in
theorem c_M_may (l : Launch) (E : zE) {A : Nat → Nat} (hA : tmI A) (X : zSt) (hX : tInv X) (F : Nat) (hF : tFu F X) (i : Int32) : zM l E y_M_may b_M_may 6 ((some .int)) rm_M_may [.ref (A 44), .int i] (tp E A X) (zPi (tMay F X i).1 (tp E A (tMay F X i).2)) := by
  refine zM_w (by decide +kernel) rfl rfl (fun sz => ?_)
  obtain ⟨⟨⟨h0, b0⟩, ⟨h2, b2⟩, ⟨h4, b4⟩, ⟨h7, b7⟩, ⟨h16, b16⟩⟩, h18, h19, hp, hf, hs, hst⟩ := id hX
  refine z_iload_n d_M_may_0 rfl ?_
  refine z_if_lt (tgt := 12) d_M_may_1 (by decide) (fun c1 => ?_) (fun c1 => ?_)
  · refine z_iconst (v := -1) d_M_may_12 ic_m1 ?_
    exact z_iret rfl d_M_may_13 (zlq rfl) (zlq rfl) (by unfold tMay; rw [if_pos c1]; exact ⟨rfl, rfl⟩)
  · refine z_iload_n d_M_may_4 rfl ?_
    refine z_aload_n d_M_may_5 rfl ?_
    refine z_get fa_M_157 d_M_may_6 (tp_o hA) rfl ?_
    refine z_top h7 ?_
    refine z_icmp_lt (tgt := 14) d_M_may_9 (by decide) (fun c9 => ?_) (fun c9 => ?_)
    · obtain ⟨ij, hij0, rfl⟩ := nI_of c1
      have hij : ij < cn X 7 := (nI_ltI hij0 (by omega)).mp c9
      obtain ⟨⟨s8, l8⟩, ⟨s9, l9⟩, ⟨s10, l10, l10a⟩, ⟨s11, l11, l11a, l11b⟩, s12, s13, s15⟩ := hst ij hij
      refine z_aload_n d_M_may_14 rfl ?_
      refine z_get fa_M_25 d_M_may_15 (tp_o hA) rfl ?_
      refine z_iload_n d_M_may_18 rfl ?_
      refine z_iald (ij) d_M_may_19 (tp_a hA 9 rfl) rfl (show ij < 60 from by omega) (by decide) ?_
      refine z_top s9 ?_
      refine z_iconst d_M_may_20 ic_4 ?_
      refine z_icmp_eq (tgt := 38) d_M_may_21 (by decide) (fun c21 => ?_) (fun c21 => ?_)
      · have c21n := (nI_eq (by omega) (by omega)).mp c21
        refine z_aload_n d_M_may_38 rfl ?_
        refine z_cVv (c_M_know l E hA _ hX F hF) cb_M_know ci_M_know ln_M_213 (tp_o hA) rfl rfl (zlq rfl) rfl (zlq rfl) (zlq rfl) d_M_may_39 ?_
        have hKt : tsm (19 :: SETS) X (tKnow F X) := tKnow_tsm
        have hK18 : ∀ j, j ≤ 18 → (tKnow F X) j = X j := fun j hj => hKt j (S19 j hj)
        have hKI : tInv (tKnow F X) := tKnow_inv hX
        have q6 := l11b (by omega) (by omega)
        refine z_aload_n d_M_may_42 rfl ?_
        refine z_aload_n d_M_may_43 rfl ?_
        refine z_get fa_M_22 d_M_may_44 (tp_o hA) rfl ?_
        refine z_iload_n d_M_may_47 rfl ?_
        refine z_iald (ij) d_M_may_48 (tp_a hA 8 rfl) rfl (show ij < 60 from by omega) (by decide) ?_
        refine z_top ((congrFun (hKt 8 (by decide)) (ij)).trans s8) ?_
        refine z_aload_n d_M_may_49 rfl ?_
        refine z_get fa_M_31 d_M_may_50 (tp_o hA) rfl ?_
        refine z_iload_n d_M_may_53 rfl ?_
        refine z_iald (ij) d_M_may_54 (tp_a hA 11 rfl) rfl (show ij < 60 from by omega) (by decide) ?_
        refine z_top ((congrFun (hKt 11 (by decide)) (ij)).trans s11) ?_
        refine z_cVi (c_M_allOf l E hA _ (ne X 8 ij) (ne X 11 ij) (by omega) (by omega)) cb_M_allOf ci_M_allOf ln_M_183 (tp_o hA) rfl rfl (zlq rfl) rfl (zlq rfl) (zlq rfl) d_M_may_55 ?_
        refine z_istore_n d_M_may_58 (zlt rfl) ?_
        refine z_iconst d_M_may_59 ic_0 ?_
        refine z_istore_n d_M_may_60 (zlt rfl) ?_
        refine z_iconst d_M_may_61 ic_0 ?_
        refine z_istore d_M_may_62 (zlt rfl) ?_
        refine zlp (Gh := fun (kz : Nat) (z : Int32) => zG (zcx l E b_M_may "PointsToRoundsModel" 6 ((some .int)) false rm_M_may (tp E A X) sz (zPi (tMay F X (nI ij)).1 (tp E A (tMay F X (nI ij)).2))) 0 0 64 [some (.ref (A 44)), some (.int (nI (ij))), some (.int (tAll (tKnow F X) (ne X 8 ij) (ne X 11 ij))), some (.int (z)), some (.int (nI (kz))), none] [] (tp E A (tKnow F X))) (f := fun o z => tMay1 X ij (tAll (tKnow F X) (ne X 8 ij) (ne X 11 ij)) o z) (N := cn X 16) (x0 := nI 0) ?_ ?_
        rotate_left
        · intro o ho iho
          generalize zit _ o _ = zo at iho ⊢
          show zG (zcx l E b_M_may "PointsToRoundsModel" 6 ((some .int)) false rm_M_may (tp E A X) sz (zPi (tMay F X (nI ij)).1 (tp E A (tMay F X (nI ij)).2))) 0 0 64 [some (.ref (A 44)), some (.int (nI (ij))), some (.int (tAll (tKnow F X) (ne X 8 ij) (ne X 11 ij))), some (.int (zo)), some (.int (nI (o))), none] [] (tp E A (tKnow F X))
          try dsimp only at iho
          refine z_iload d_M_may_64 rfl ?_
          refine z_aload_n d_M_may_66 rfl ?_
          refine z_get fa_M_160 d_M_may_67 (tp_o hA) rfl ?_
          refine z_top ((congrFun (hKt 16 (by decide)) 0).trans h16) ?_
          refine z_icmp_ge (tgt := 170) d_M_may_70 (by decide) (fun c70 => absurd c70 (nI_ge ho (by omega))) (fun c70 => ?_)
          have c70n := (not_congr (nI_leI (by omega) (by omega))).mp c70
          refine z_iload_n d_M_may_73 rfl ?_
          refine z_iload d_M_may_74 rfl ?_
          refine z_ishr d_M_may_76 ?_
          refine z_iconst d_M_may_77 ic_1 ?_
          refine z_iand d_M_may_78 ?_
          refine z_if_ne (tgt := 85) d_M_may_79 (by decide) (fun c79 => ?_) (fun c79 => ?_)
          · refine z_aload_n d_M_may_85 rfl ?_
            refine z_get fa_M_25 d_M_may_86 (tp_o hA) rfl ?_
            refine z_iload_n d_M_may_89 rfl ?_
            refine z_iald (ij) d_M_may_90 (tp_a hA 9 rfl) rfl (show ij < 60 from by omega) (by decide) ?_
            refine z_top ((congrFun (hKt 9 (by decide)) (ij)).trans (s9.trans (by rw [c21n]))) ?_
            refine z_iconst d_M_may_91 ic_4 ?_
            refine z_icmp_ne (tgt := 129) d_M_may_92 (by decide) (fun c92 => absurd (by decide +kernel) c92) (fun c92 => ?_)
            refine z_iload_n d_M_may_95 rfl ?_
            refine z_aload_n d_M_may_96 rfl ?_
            refine z_aload_n d_M_may_97 rfl ?_
            refine z_get fa_M_46 d_M_may_98 (tp_o hA) rfl ?_
            refine z_iload d_M_may_101 rfl ?_
            refine z_iald (o) d_M_may_103 (tp_a hA 17 rfl) rfl (show o < 20 from by omega) (by decide) ?_
            refine z_top (congrFun (hKt 17 (by decide)) (o)) ?_
            refine z_aload_n d_M_may_104 rfl ?_
            refine z_get fa_M_34 d_M_may_105 (tp_o hA) rfl ?_
            refine z_iload_n d_M_may_108 rfl ?_
            refine z_iald (ij) d_M_may_109 (tp_a hA 12 rfl) rfl (show ij < 60 from by omega) (by decide) ?_
            refine z_top (congrFun (hKt 12 (by decide)) (ij)) ?_
            refine z_cVi (c_M_isUnderZ l E hA hK18 hKI (X 17 (o)) (X 12 (ij)) (Or.inr (hs _ ho))) cb_M_isUnder ci_M_isUnder ln_M_119 (tp_o hA) rfl rfl (zlq rfl) rfl (zlq rfl) (zlq rfl) d_M_may_110 ?_
            refine z_if_eq (tgt := 120) d_M_may_113 (by decide) (fun c113 => ?_) (fun c113 => ?_)
            · have c113n := bI_e.mp c113
              refine z_iconst d_M_may_120 ic_1 ?_
              refine z_iload d_M_may_121 rfl ?_
              refine z_ishl d_M_may_123 ?_
              refine z_ior d_M_may_124 ?_
              refine z_istore_n d_M_may_125 (zlt rfl) ?_
              refine z_goto (tgt := 164) d_M_may_126 (by decide) ?_
              refine z_iinc (v := nI (o + 1)) d_M_may_164 (zlt rfl) rfl (zinc _) ?_
              refine z_goto (tgt := 64) d_M_may_167 (by decide) ?_
              rw [show tMay1 X ij (tAll (tKnow F X) (ne X 8 ij) (ne X 11 ij)) o zo = (zo ||| (nI 1 <<< (nI (o) &&& 31))) from by
                  unfold tMay1
                  rw [if_neg c79, if_pos c21n, if_neg (zbf c113n)]; try rfl] at iho
              refine z_fl 5 ?_
              exact iho
            · have c113n := bI_n.mp c113
              refine z_iconst d_M_may_116 ic_0 ?_
              refine z_goto (tgt := 124) d_M_may_117 (by decide) ?_
              refine z_ior d_M_may_124 ?_
              refine z_istore_n d_M_may_125 (zlt rfl) ?_
              refine z_goto (tgt := 164) d_M_may_126 (by decide) ?_
              refine z_iinc (v := nI (o + 1)) d_M_may_164 (zlt rfl) rfl (zinc _) ?_
              refine z_goto (tgt := 64) d_M_may_167 (by decide) ?_
              rw [show tMay1 X ij (tAll (tKnow F X) (ne X 8 ij) (ne X 11 ij)) o zo = (zo ||| nI 0) from by
                  unfold tMay1
                  rw [if_neg c79, if_pos c21n, if_pos c113n]; try rfl] at iho
              refine z_fl 5 ?_
              exact iho
          · refine z_goto (tgt := 164) d_M_may_82 (by decide) ?_
            refine z_iinc (v := nI (o + 1)) d_M_may_164 (zlt rfl) rfl (zinc _) ?_
            refine z_goto (tgt := 64) d_M_may_167 (by decide) ?_
            rw [show tMay1 X ij (tAll (tKnow F X) (ne X 8 ij) (ne X 11 ij)) o zo = zo from by
                unfold tMay1
                rw [if_pos c79]] at iho
            refine z_fl 5 ?_
            exact iho
        show zG (zcx l E b_M_may "PointsToRoundsModel" 6 ((some .int)) false rm_M_may (tp E A X) sz (zPi (tMay F X (nI ij)).1 (tp E A (tMay F X (nI ij)).2))) 0 0 64 [some (.ref (A 44)), some (.int (nI (ij))), some (.int (tAll (tKnow F X) (ne X 8 ij) (ne X 11 ij))), some (.int (zit (fun o z => tMay1 X ij (tAll (tKnow F X) (ne X 8 ij) (ne X 11 ij)) o z) (cn X 16) (nI 0))), some (.int (nI (cn X 16))), none] [] (tp E A (tKnow F X))
        refine z_iload d_M_may_64 rfl ?_
        refine z_aload_n d_M_may_66 rfl ?_
        refine z_get fa_M_160 d_M_may_67 (tp_o hA) rfl ?_
        refine z_top ((congrFun (hKt 16 (by decide)) 0).trans h16) ?_
        refine z_icmp_ge (tgt := 170) d_M_may_70 (by decide) (fun c70 => ?_) (fun c70 => absurd (nI_le (Nat.le_refl _) (by omega)) c70)
        have c70n := (nI_leI (by omega) (by omega)).mp c70
        refine z_iload_n d_M_may_170 rfl ?_
        exact z_iret rfl d_M_may_171 (zlq rfl) (zlq rfl) (by unfold tMay; rw [nI_clamp hij0, if_neg c1, if_pos c9, if_pos c21]; exact ⟨rfl, rfl⟩)
      · have c21n := (not_congr (nI_eq (by omega) (by omega))).mp c21
        refine z_aload_n d_M_may_24 rfl ?_
        refine z_get fa_M_25 d_M_may_25 (tp_o hA) rfl ?_
        refine z_iload_n d_M_may_28 rfl ?_
        refine z_iald (ij) d_M_may_29 (tp_a hA 9 rfl) rfl (show ij < 60 from by omega) (by decide) ?_
        refine z_top s9 ?_
        refine z_bipush d_M_may_30 bp_7 ?_
        refine z_icmp_eq (tgt := 38) d_M_may_32 (by decide) (fun c32 => ?_) (fun c32 => ?_)
        · have c32n := (nI_eq (by omega) (by omega)).mp c32
          refine z_aload_n d_M_may_38 rfl ?_
          refine z_cVv (c_M_know l E hA _ hX F hF) cb_M_know ci_M_know ln_M_213 (tp_o hA) rfl rfl (zlq rfl) rfl (zlq rfl) (zlq rfl) d_M_may_39 ?_
          have hKt : tsm (19 :: SETS) X (tKnow F X) := tKnow_tsm
          have hK18 : ∀ j, j ≤ 18 → (tKnow F X) j = X j := fun j hj => hKt j (S19 j hj)
          have hKI : tInv (tKnow F X) := tKnow_inv hX
          have q6 := l11b (by omega) (by omega)
          refine z_aload_n d_M_may_42 rfl ?_
          refine z_aload_n d_M_may_43 rfl ?_
          refine z_get fa_M_22 d_M_may_44 (tp_o hA) rfl ?_
          refine z_iload_n d_M_may_47 rfl ?_
          refine z_iald (ij) d_M_may_48 (tp_a hA 8 rfl) rfl (show ij < 60 from by omega) (by decide) ?_
          refine z_top ((congrFun (hKt 8 (by decide)) (ij)).trans s8) ?_
          refine z_aload_n d_M_may_49 rfl ?_
          refine z_get fa_M_31 d_M_may_50 (tp_o hA) rfl ?_
          refine z_iload_n d_M_may_53 rfl ?_
          refine z_iald (ij) d_M_may_54 (tp_a hA 11 rfl) rfl (show ij < 60 from by omega) (by decide) ?_
          refine z_top ((congrFun (hKt 11 (by decide)) (ij)).trans s11) ?_
          refine z_cVi (c_M_allOf l E hA _ (ne X 8 ij) (ne X 11 ij) (by omega) (by omega)) cb_M_allOf ci_M_allOf ln_M_183 (tp_o hA) rfl rfl (zlq rfl) rfl (zlq rfl) (zlq rfl) d_M_may_55 ?_
          refine z_istore_n d_M_may_58 (zlt rfl) ?_
          refine z_iconst d_M_may_59 ic_0 ?_
          refine z_istore_n d_M_may_60 (zlt rfl) ?_
          refine z_iconst d_M_may_61 ic_0 ?_
          refine z_istore d_M_may_62 (zlt rfl) ?_
          refine zlp (Gh := fun (kz : Nat) (z : Int32) => zG (zcx l E b_M_may "PointsToRoundsModel" 6 ((some .int)) false rm_M_may (tp E A X) sz (zPi (tMay F X (nI ij)).1 (tp E A (tMay F X (nI ij)).2))) 0 0 64 [some (.ref (A 44)), some (.int (nI (ij))), some (.int (tAll (tKnow F X) (ne X 8 ij) (ne X 11 ij))), some (.int (z)), some (.int (nI (kz))), none] [] (tp E A (tKnow F X))) (f := fun o z => tMay1 X ij (tAll (tKnow F X) (ne X 8 ij) (ne X 11 ij)) o z) (N := cn X 16) (x0 := nI 0) ?_ ?_
          rotate_left
          · intro o ho iho
            generalize zit _ o _ = zo at iho ⊢
            show zG (zcx l E b_M_may "PointsToRoundsModel" 6 ((some .int)) false rm_M_may (tp E A X) sz (zPi (tMay F X (nI ij)).1 (tp E A (tMay F X (nI ij)).2))) 0 0 64 [some (.ref (A 44)), some (.int (nI (ij))), some (.int (tAll (tKnow F X) (ne X 8 ij) (ne X 11 ij))), some (.int (zo)), some (.int (nI (o))), none] [] (tp E A (tKnow F X))
            try dsimp only at iho
            refine z_iload d_M_may_64 rfl ?_
            refine z_aload_n d_M_may_66 rfl ?_
            refine z_get fa_M_160 d_M_may_67 (tp_o hA) rfl ?_
            refine z_top ((congrFun (hKt 16 (by decide)) 0).trans h16) ?_
            refine z_icmp_ge (tgt := 170) d_M_may_70 (by decide) (fun c70 => absurd c70 (nI_ge ho (by omega))) (fun c70 => ?_)
            have c70n := (not_congr (nI_leI (by omega) (by omega))).mp c70
            refine z_iload_n d_M_may_73 rfl ?_
            refine z_iload d_M_may_74 rfl ?_
            refine z_ishr d_M_may_76 ?_
            refine z_iconst d_M_may_77 ic_1 ?_
            refine z_iand d_M_may_78 ?_
            refine z_if_ne (tgt := 85) d_M_may_79 (by decide) (fun c79 => ?_) (fun c79 => ?_)
            · refine z_aload_n d_M_may_85 rfl ?_
              refine z_get fa_M_25 d_M_may_86 (tp_o hA) rfl ?_
              refine z_iload_n d_M_may_89 rfl ?_
              refine z_iald (ij) d_M_may_90 (tp_a hA 9 rfl) rfl (show ij < 60 from by omega) (by decide) ?_
              refine z_top ((congrFun (hKt 9 (by decide)) (ij)).trans (s9.trans (by rw [c32n]))) ?_
              refine z_iconst d_M_may_91 ic_4 ?_
              refine z_icmp_ne (tgt := 129) d_M_may_92 (by decide) (fun c92 => ?_) (fun c92 => absurd c92 (by decide +kernel))
              refine z_aload_n d_M_may_129 rfl ?_
              refine z_aload_n d_M_may_130 rfl ?_
              refine z_get fa_M_46 d_M_may_131 (tp_o hA) rfl ?_
              refine z_iload d_M_may_134 rfl ?_
              refine z_iald (o) d_M_may_136 (tp_a hA 17 rfl) rfl (show o < 20 from by omega) (by decide) ?_
              refine z_top (congrFun (hKt 17 (by decide)) (o)) ?_
              refine z_aload_n d_M_may_137 rfl ?_
              refine z_get fa_M_34 d_M_may_138 (tp_o hA) rfl ?_
              refine z_iload_n d_M_may_141 rfl ?_
              refine z_iald (ij) d_M_may_142 (tp_a hA 12 rfl) rfl (show ij < 60 from by omega) (by decide) ?_
              refine z_top (congrFun (hKt 12 (by decide)) (ij)) ?_
              refine z_cVi (c_M_foundZ l E hA hK18 hKI (X 17 (o)) (X 12 (ij)) (Or.inr (hs _ ho))) cb_M_found ci_M_found ln_M_180 (tp_o hA) rfl rfl (zlq rfl) rfl (zlq rfl) (zlq rfl) d_M_may_143 ?_
              refine z_istore d_M_may_146 (zlt rfl) ?_
              refine z_iload_n d_M_may_148 rfl ?_
              refine z_iload d_M_may_149 rfl ?_
              refine z_if_ge (tgt := 158) d_M_may_151 (by decide) (fun c151 => ?_) (fun c151 => ?_)
              · refine z_iconst d_M_may_158 ic_1 ?_
                refine z_iload d_M_may_159 rfl ?_
                refine z_ishl d_M_may_161 ?_
                refine z_ior d_M_may_162 ?_
                refine z_istore_n d_M_may_163 (zlt rfl) ?_
                refine z_iinc (v := nI (o + 1)) d_M_may_164 (zlt rfl) rfl (zinc _) ?_
                refine z_goto (tgt := 64) d_M_may_167 (by decide) ?_
                rw [show tMay1 X ij (tAll (tKnow F X) (ne X 8 ij) (ne X 11 ij)) o zo = (zo ||| (nI 1 <<< (fdf X (X 12 (ij)) 9 (X 17 (o)) &&& 31))) from by
                    unfold tMay1
                    rw [if_neg c79, if_neg (show ¬ ne X 9 ij = 4 by omega), if_pos c151]; try rfl] at iho
                refine z_fl 5 ?_
                exact iho
              · refine z_iconst d_M_may_154 ic_0 ?_
                refine z_goto (tgt := 162) d_M_may_155 (by decide) ?_
                refine z_ior d_M_may_162 ?_
                refine z_istore_n d_M_may_163 (zlt rfl) ?_
                refine z_iinc (v := nI (o + 1)) d_M_may_164 (zlt rfl) rfl (zinc _) ?_
                refine z_goto (tgt := 64) d_M_may_167 (by decide) ?_
                rw [show tMay1 X ij (tAll (tKnow F X) (ne X 8 ij) (ne X 11 ij)) o zo = (zo ||| nI 0) from by
                    unfold tMay1
                    rw [if_neg c79, if_neg (show ¬ ne X 9 ij = 4 by omega), if_neg c151]; try rfl] at iho
                refine z_fl 5 ?_
                exact iho
            · refine z_goto (tgt := 164) d_M_may_82 (by decide) ?_
              refine z_iinc (v := nI (o + 1)) d_M_may_164 (zlt rfl) rfl (zinc _) ?_
              refine z_goto (tgt := 64) d_M_may_167 (by decide) ?_
              rw [show tMay1 X ij (tAll (tKnow F X) (ne X 8 ij) (ne X 11 ij)) o zo = zo from by
                  unfold tMay1
                  rw [if_pos c79]] at iho
              refine z_fl 5 ?_
              exact iho
          show zG (zcx l E b_M_may "PointsToRoundsModel" 6 ((some .int)) false rm_M_may (tp E A X) sz (zPi (tMay F X (nI ij)).1 (tp E A (tMay F X (nI ij)).2))) 0 0 64 [some (.ref (A 44)), some (.int (nI (ij))), some (.int (tAll (tKnow F X) (ne X 8 ij) (ne X 11 ij))), some (.int (zit (fun o z => tMay1 X ij (tAll (tKnow F X) (ne X 8 ij) (ne X 11 ij)) o z) (cn X 16) (nI 0))), some (.int (nI (cn X 16))), none] [] (tp E A (tKnow F X))
          refine z_iload d_M_may_64 rfl ?_
          refine z_aload_n d_M_may_66 rfl ?_
          refine z_get fa_M_160 d_M_may_67 (tp_o hA) rfl ?_
          refine z_top ((congrFun (hKt 16 (by decide)) 0).trans h16) ?_
          refine z_icmp_ge (tgt := 170) d_M_may_70 (by decide) (fun c70 => ?_) (fun c70 => absurd (nI_le (Nat.le_refl _) (by omega)) c70)
          have c70n := (nI_leI (by omega) (by omega)).mp c70
          refine z_iload_n d_M_may_170 rfl ?_
          exact z_iret rfl d_M_may_171 (zlq rfl) (zlq rfl) (by unfold tMay; rw [nI_clamp hij0, if_neg c1, if_pos c9, if_neg c21, if_pos c32]; exact ⟨rfl, rfl⟩)
        · have c32n := (not_congr (nI_eq (by omega) (by omega))).mp c32
          refine z_bipush (v := -3) d_M_may_35 bp_m3 ?_
          exact z_iret rfl d_M_may_37 (zlq rfl) (zlq rfl) (by unfold tMay; rw [nI_clamp hij0, if_neg c1, if_pos c9, if_neg c21, if_neg c32]; exact ⟨rfl, rfl⟩)
    · refine z_iconst (v := -1) d_M_may_12 ic_m1 ?_
      exact z_iret rfl d_M_may_13 (zlq rfl) (zlq rfl) (by unfold tMay; rw [if_neg c1, if_neg c9]; exact ⟨rfl, rfl⟩)
abbrev rm_M_met : Room := { frames := 1, cells := 0, slots := 0, locals := 21 }
set_option maxHeartbeats 4000000 in
set_option maxRecDepth 100000 in
theorem c_M_met (l : Launch) (E : zE) {A : Nat → Nat} (hA : tmI A) (X : zSt) (hX : tInv X) (m n : Int32) : zM l E y_M_met b_M_met 3 ((some .int)) rm_M_met [.ref (A 44), .int m, .int n] (tp E A X) (zPi (tMet X m n) (tp E A X)) := by
  refine zM_w (by decide +kernel) rfl rfl (fun sz => ?_)
  obtain ⟨⟨⟨h0, b0⟩, ⟨h2, b2⟩, ⟨h4, b4⟩, ⟨h7, b7⟩, ⟨h16, b16⟩⟩, h18, h19, hp, hf, hs, hst⟩ := id hX
  refine z_aload_n d_M_met_0 rfl ?_
  refine z_iload_n d_M_met_1 rfl ?_
  refine z_cVi (c_M_isMethod l E hA _ _) cb_M_isMethod ci_M_isMethod ln_M_150 (tp_o hA) rfl rfl (zlq rfl) rfl (zlq rfl) (zlq rfl) d_M_met_2 ?_
  refine z_if_eq (tgt := 29) d_M_met_5 (by decide) (fun c5 => ?_) (fun c5 => ?_)
  · have c5n := bI_e.mp c5
    refine z_iconst (v := -1) d_M_met_29 ic_m1 ?_
    exact z_iret rfl d_M_met_30 (zlq rfl) (zlq rfl) (⟨by unfold tMet; rw [if_neg (zbf c5n)], rfl⟩)
  · have c5n := bI_n.mp c5
    refine z_iload_n d_M_met_8 rfl ?_
    refine z_cSi (c_M_isName l E _ _) cb_M_isName cs_M_isName ln_M_141 rfl rfl (zlq rfl) rfl (zlq rfl) (zlq rfl) d_M_met_9 ?_
    refine z_if_eq (tgt := 29) d_M_met_12 (by decide) (fun c12 => ?_) (fun c12 => ?_)
    · have c12n := bI_e.mp c12
      refine z_iconst (v := -1) d_M_met_29 ic_m1 ?_
      exact z_iret rfl d_M_met_30 (zlq rfl) (zlq rfl) (⟨by unfold tMet; rw [if_pos c5n, if_neg (zbf c12n)], rfl⟩)
    · have c12n := bI_n.mp c12
      obtain ⟨mj, hmj, rfl⟩ := tIn_nat c5n h4 (by omega)
      obtain ⟨nj, hnj, rfl⟩ := tIn_nat c12n rfl (by omega)
      refine z_aload_n d_M_met_15 rfl ?_
      refine z_get fa_M_106 d_M_met_16 (tp_o hA) rfl ?_
      refine z_bipush d_M_met_19 bp_6 ?_
      refine z_iload_n d_M_met_21 rfl ?_
      refine z_imul d_M_met_22 ?_
      refine z_top (pk_mul (6) (mj)) ?_
      refine z_iload_n d_M_met_23 rfl ?_
      refine z_iadd d_M_met_24 ?_
      refine z_top (nI_add (6 * mj) (nj)) ?_
      refine z_iald (6 * mj + nj) d_M_met_25 (tp_a hA 42 rfl) rfl (show 6 * mj + nj < 60 from by omega) (by decide) ?_
      refine z_goto (tgt := 30) d_M_met_26 (by decide) ?_
      exact z_iret rfl d_M_met_30 (zlq rfl) (zlq rfl) (⟨by unfold tMet; rw [if_pos c5n, if_pos c12n]; rw [nI_clamp (show mj < 2 ^ 31 by omega), nI_clamp (show nj < 2 ^ 31 by omega)], rfl⟩)
abbrev rm_M_ran : Room := { frames := 0, cells := 0, slots := 0, locals := 0 }
set_option maxHeartbeats 4000000 in
set_option maxRecDepth 100000 in
theorem c_M_ran (l : Launch) (E : zE) {A : Nat → Nat} (hA : tmI A) (X : zSt) (x : Int32) : zM l E y_M_ran b_M_ran 2 ((some .int)) rm_M_ran [.ref (A 44), .int x] (tp E A X) (zPi (tRan X x) (tp E A X)) := by
  refine zM_w (by decide +kernel) rfl rfl (fun sz => ?_)
  refine z_iload_n d_M_ran_0 rfl ?_
  refine z_if_ne (tgt := 11) d_M_ran_1 (by decide) (fun c1 => ?_) (fun c1 => ?_)
  · refine z_iload_n d_M_ran_11 rfl ?_
    refine z_iconst d_M_ran_12 ic_1 ?_
    refine z_icmp_ne (tgt := 23) d_M_ran_13 (by decide) (fun c13 => ?_) (fun c13 => ?_)
    · refine z_iload_n d_M_ran_23 rfl ?_
      refine z_iconst d_M_ran_24 ic_2 ?_
      refine z_icmp_ne (tgt := 35) d_M_ran_25 (by decide) (fun c25 => ?_) (fun c25 => ?_)
      · refine z_bipush (v := -2) d_M_ran_35 bp_m2 ?_
        exact z_iret rfl d_M_ran_37 (zlq rfl) (zlq rfl) (⟨by unfold tRan; rw [if_neg c1, if_neg c13, if_neg c25], rfl⟩)
      · refine z_aload_n d_M_ran_28 rfl ?_
        refine z_get fa_M_225 d_M_ran_29 (tp_o hA) rfl ?_
        refine z_goto (tgt := 37) d_M_ran_32 (by decide) ?_
        exact z_iret rfl d_M_ran_37 (zlq rfl) (zlq rfl) (⟨by unfold tRan; rw [if_neg c1, if_neg c13, if_pos c25], rfl⟩)
    · refine z_aload_n d_M_ran_16 rfl ?_
      refine z_get fa_M_222 d_M_ran_17 (tp_o hA) rfl ?_
      refine z_goto (tgt := 37) d_M_ran_20 (by decide) ?_
      exact z_iret rfl d_M_ran_37 (zlq rfl) (zlq rfl) (⟨by unfold tRan; rw [if_neg c1, if_pos c13], rfl⟩)
  · refine z_aload_n d_M_ran_4 rfl ?_
    refine z_get fa_M_219 d_M_ran_5 (tp_o hA) rfl ?_
    refine z_goto (tgt := 37) d_M_ran_8 (by decide) ?_
    exact z_iret rfl d_M_ran_37 (zlq rfl) (zlq rfl) (⟨by unfold tRan; rw [if_pos c1], rfl⟩)
