/-! the twin: run -/
def cntf (X : zSt) (m : Int32) : Nat → Nat → Nat
  | 0, _ => 0
  | k + 1, i => (if X 8 i = m then 1 else 0) + cntf X m k (i + 1)
theorem cntf_s {X : zSt} {m : Int32} : ∀ (k i : Nat), cntf X m (k + 1) i = cntf X m k i + (if X 8 (i + k) = m then 1 else 0) := by
  intro k
  induction k with
  | zero => intro i; rw [cntf, cntf, cntf, show i + 0 = i from rfl]; omega
  | succ k ih => intro i; rw [cntf, ih (i + 1), cntf, show i + 1 + k = i + (k + 1) by omega]; omega
theorem mny_cnt {X : zSt} {m : Int32} : mny X m = cntf X m (cn X 7) 0 := by
  have := zit_inv (f := fun i z => if X 8 i = m then z + 1 else z + 0) (I := fun k z => z = cntf X m k 0) (N := cn X 7) (x0 := 0) rfl (fun k z _ hz => by
    (try dsimp only)
    rw [cntf_s, Nat.zero_add, hz]
    split <;> rfl) (cn X 7) (Nat.le_refl _)
  exact this
theorem sof_at {X : zSt} {m : Int32} : ∀ (k i l : Nat), l < cntf X m k i → l < 1000 → ∃ j : Nat, i ≤ j ∧ j < i + k ∧ sof X m k i l = nI j ∧ X 8 j = m := by
  intro k
  induction k with
  | zero => intro i l h; rw [cntf] at h; omega
  | succ k ih =>
    intro i l h hl
    rw [cntf] at h
    rw [sof]
    by_cases c : X 8 i = m
    · rw [if_pos c] at h ⊢
      by_cases c2 : nI l = 0
      · rw [if_pos c2]
        exact ⟨i, by omega, by omega, rfl, c⟩
      · rw [if_neg c2]
        have h0 : l ≠ 0 := fun z => c2 ((nI_z (by omega)).mpr z)
        obtain ⟨j, j1, j2, j3, j4⟩ := ih (i + 1) (l - 1) (by omega) (by omega)
        exact ⟨j, by omega, by omega, j3, j4⟩
    · rw [if_neg c] at h ⊢
      obtain ⟨j, j1, j2, j3, j4⟩ := ih (i + 1) l (by omega) hl
      exact ⟨j, by omega, by omega, j3, j4⟩
theorem sof_nat {X : zSt} {m : Int32} {t : Nat} (h : t < mny X m) (hb : cn X 7 ≤ 60) : ∃ j : Nat, j < cn X 7 ∧ sof X m (cn X 7) 0 t = nI j ∧ X 8 j = m := by
  have hm : mny X m ≤ 60 := mny_le hb
  rw [mny_cnt] at h hm
  obtain ⟨j, -, j2, j3, j4⟩ := sof_at (cn X 7) 0 t h (by omega)
  exact ⟨j, by omega, j3, j4⟩
def zR (z : Int32) : Nat := z.toBitVec.toNat / 2
theorem zR_lt (z : Int32) : zR z < 2 ^ 31 := by
  unfold zR
  have := z.toBitVec.isLt
  omega
theorem i_of (x : Int32) : x = nI x.toBitVec.toNat := by
  apply Int32.toBitVec_inj.mp
  show x.toBitVec = (Int32.ofNat x.toBitVec.toNat).toBitVec
  simp [Int32.toBitVec_ofNat]
theorem zR_ush (z : Int32) : (z.toUInt32 >>> ((nI 1).toUInt32 &&& Int32.toUInt32 31)).toInt32 = nI (zR z) := by
  have h := pk_ushr z (nI 1) 1 (by decide +kernel)
  rw [i_of ((z.toUInt32 >>> ((nI 1).toUInt32 &&& Int32.toUInt32 31)).toInt32), h]
  rfl
theorem zR_rem (z : Int32) {n : Nat} (hn : n ≤ 60) : (z.toUInt32 >>> ((nI 1).toUInt32 &&& Int32.toUInt32 31)).toInt32 - (z.toUInt32 >>> ((nI 1).toUInt32 &&& Int32.toUInt32 31)).toInt32 / nI (n + 1) * nI (n + 1) = nI (zR z % (n + 1)) := by
  rw [zR_ush]
  exact pk_rem (zR_lt z) (by omega) (by omega)
def tAdv (z : Int32) : Int32 := z * 1664525 + 1013904223
def tPick (X : zSt) (z : Int32) : Nat := zR z % (mny X (X 38 (cn X 37 - 1)) + 1)
def tS1 (X : zSt) (z : Int32) : zSt := if mny X (X 38 (cn X 37 - 1)) ≤ tPick X z then tLeave X else tAct X (sof X (X 38 (cn X 37 - 1)) (cn X 7) 0 (tPick X z)).toNatClampNeg
def tStp (w : Int32 × Bool × zSt) : Int32 × Bool × zSt := (tAdv w.1, w.2.1 && (tHolds (tS1 w.2.2 (tAdv w.1))).1, (tHolds (tS1 w.2.2 (tAdv w.1))).2)
def tR0 (K : zSt) : zSt := tOpen (fl (tFg K) 36 4 (fun _ => -1)) (nI 0) (nI 0) (nI 0)
def tRn (K : zSt) (seed : Int32) (n : Nat) : Int32 × Bool × zSt := zit (fun _ w => tStp w) n (seed, true, tR0 K)
def tRun (f : Nat) (X : zSt) (seed steps : Int32) : Int32 × zSt := if steps < 0 then (-2, X) else if steps ≤ nI 300 then (if nI (cn X 4) = 0 then (-3, X) else (bI (tRn (tKnow f X) seed steps.toNatClampNeg).2.1, (tRn (tKnow f X) seed steps.toNatClampNeg).2.2)) else (-2, X)
theorem tR0_tsm {K : zSt} : tsm RUN K (tR0 K) := by
  unfold tR0 tFg
  exact tsm_tr (tsm_tr (tsm_tr (tsm_tr (tsm_tr (tsm_up (by decide)) (tsm_up (by decide))) (tsm_up (by decide))) (tsm_up (by decide))) (fl_tsm (by decide))) (tsm_w tOpen_tsm (by decide))
theorem tHolds_tsm {X : zSt} : tsm RUN X (tHolds X).2 := tsm_w tHa_tsm (by decide)
theorem tS1_tsm {X : zSt} {z : Int32} : tsm RUN X (tS1 X z) := by
  unfold tS1
  split
  · exact tLeave_tsm
  · exact tAct_tsm
theorem tStp_tsm {w : Int32 × Bool × zSt} : tsm RUN w.2.2 (tStp w).2.2 := tsm_tr tS1_tsm tHolds_tsm
theorem tR0_inv {K : zSt} (hK : tInv K) (hm : cn K 4 ≠ 0) : rInv (tR0 K) := by
  obtain ⟨⟨-, -, ⟨-, b4⟩, -, ⟨-, b16⟩⟩, -⟩ := hK
  have z0 : (nI 0).toNatClampNeg = 0 := nI_clamp (by decide)
  have e0 : cn (fl (tFg K) 36 4 (fun _ => -1)) 37 = 0 := z0
  have eo : tR0 K = va_up (va_up (tOp1 (fl (tFg K) 36 4 (fun _ => -1)) (nI 0) (nI 0) (nI 0)) 41 (fun j => if 6 * (cn (fl (tFg K) 36 4 (fun _ => -1)) 37) ≤ j ∧ j < 6 * (cn (fl (tFg K) 36 4 (fun _ => -1)) 37) + 6 then -1 else K 41 j)) 37 (fun _ => nI (cn (fl (tFg K) 36 4 (fun _ => -1)) 37 + 1)) := by
    unfold tR0 tOpen
    rw [zit_off]
    rfl
  rw [eo]
  unfold tOp1
  rw [e0]
  refine rInv_of (fr := 1) (ob := 0) b4 b16 rfl rfl ⟨by omega, by omega, fun j hj => ?_, fun j hj n hn => ?_, fun o ho => by omega, fun o ho => by omega, fun o ho => by omega, fun s hs => Or.inl ?_⟩
  · have hj0 : j = 0 := by omega
    subst hj0
    exact ⟨⟨0, Nat.pos_of_ne_zero hm, rfl⟩, ⟨0, by omega, rfl⟩, ⟨0, by omega, rfl⟩⟩
  · have hj0 : j = 0 := by omega
    subst hj0
    refine Or.inl ?_
    show (if 6 * 0 ≤ 6 * 0 + n ∧ 6 * 0 + n < 6 * 0 + 6 then (-1 : Int32) else K 41 (6 * 0 + n)) = -1
    rw [if_pos (by omega)]
  · show (if s < 4 then (-1 : Int32) else _) = -1
    rw [if_pos hs]
theorem tStp_inv {w : Int32 × Bool × zSt} (hI : tInv w.2.2) (hR : rInv w.2.2) : tInv (tS1 w.2.2 (tAdv w.1)) ∧ rInv (tS1 w.2.2 (tAdv w.1)) ∧ tInv (tStp w).2.2 ∧ rInv (tStp w).2.2 := by
  have a1 : tInv (tS1 w.2.2 (tAdv w.1)) := tInv_tsm tS1_tsm RUN_19 hI
  have a2 : rInv (tS1 w.2.2 (tAdv w.1)) := by
    unfold tS1
    split
    · exact rInv_leave hI hR
    · rename_i hc
      obtain ⟨j, j1, j2, -⟩ := sof_nat (X := w.2.2) (m := w.2.2 38 (cn w.2.2 37 - 1)) (t := tPick w.2.2 (tAdv w.1)) (by omega) hI.1.2.2.2.1.2
      rw [j2, nI_clamp (by have := hI.1.2.2.2.1.2; omega)]
      exact rInv_act hI hR j1
  refine ⟨a1, a2, tInv_tsm tStp_tsm RUN_19 hI, rInv_c (fun j hj => tHa_tsm j (by simp; omega)) a2⟩
abbrev rm_M_run : Room := { frames := 5, cells := 0, slots := 0, locals := 125 }
set_option maxHeartbeats 4000000 in
set_option maxRecDepth 100000 in
theorem c_M_run (l : Launch) (E : zE) {A : Nat → Nat} (hA : tmI A) (X0 : zSt) (hX0 : tInv X0) (F : Nat) (hF : tFu F X0) (seed steps : Int32) : zM l E y_M_run b_M_run 10 ((some .int)) rm_M_run [.ref (A 44), .int seed, .int steps] (tp E A X0) (zPi (tRun F X0 seed steps).1 (tp E A (tRun F X0 seed steps).2)) := by
  refine zM_w (by decide +kernel) rfl rfl (fun sz => ?_)
  obtain ⟨⟨-, -, ⟨g4, gb4⟩, -⟩, -⟩ := id hX0
  refine z_iload_n d_M_run_0 rfl ?_
  refine z_if_lt (tgt := 11) d_M_run_1 (by decide) (fun c1 => ?_) (fun c1 => ?_)
  · refine z_bipush (v := -2) d_M_run_11 bp_m2 ?_
    exact z_iret rfl d_M_run_13 (zlq rfl) (zlq rfl) (by unfold tRun; rw [if_pos c1]; exact ⟨rfl, rfl⟩)
  · refine z_iload_n d_M_run_4 rfl ?_
    refine z_sipush d_M_run_5 sp_300 ?_
    refine z_icmp_le (tgt := 14) d_M_run_8 (by decide) (fun c8 => ?_) (fun c8 => ?_)
    · refine z_aload_n d_M_run_14 rfl ?_
      refine z_get fa_M_116 d_M_run_15 (tp_o hA) rfl ?_
      refine z_top g4 ?_
      refine z_if_ne (tgt := 24) d_M_run_18 (by decide) (fun c18 => ?_) (fun c18 => ?_)
      · have c18n := (not_congr (nI_z (by omega))).mp c18
        obtain ⟨sn, hsn, rfl⟩ : ∃ j : Nat, j ≤ 300 ∧ steps = nI j := nI_of2 (M := nI 300) (by decide +kernel) c1 c8
        have hKI : tInv (tKnow F X0) := tKnow_inv hX0
        have hK4 : cn (tKnow F X0) 4 = cn X0 4 := cn_tsm tKnow_tsm (by decide)
        refine z_aload_n d_M_run_24 rfl ?_
        refine z_cVv (c_M_know l E hA _ hX0 F hF) cb_M_know ci_M_know ln_M_213 (tp_o hA) rfl rfl (zlq rfl) rfl (zlq rfl) (zlq rfl) d_M_run_25 ?_
        refine z_aload_n d_M_run_28 rfl ?_
        refine z_cVv (c_M_forgetRun l E hA _) cb_M_forgetRun ci_M_forgetRun ln_M_131 (tp_o hA) rfl rfl (zlq rfl) rfl (zlq rfl) (zlq rfl) d_M_run_29 ?_
        refine z_iconst d_M_run_32 ic_0 ?_
        refine z_istore_n d_M_run_33 (zlt rfl) ?_
        refine zlp (Gh := fun (kz : Nat) (Z : zSt) => zG (zcx l E b_M_run "PointsToRoundsModel" 10 ((some .int)) false rm_M_run (tp E A X0) sz (zPi (tRun F X0 seed (nI sn)).1 (tp E A (tRun F X0 seed (nI sn)).2))) 0 0 34 [some (.ref (A 44)), some (.int (seed)), some (.int (nI (sn))), some (.int (nI (kz))), none, none, none, none, none, none] [] (tp E A Z)) (f := fun k Y => va_up Y 36 (upd (Y 36) k (-1))) (N := 4) (x0 := (tFg (tKnow F X0))) ?_ ?_
        rotate_left
        · intro s hs ihs
          generalize zit _ s _ = Ys at ihs ⊢
          show zG (zcx l E b_M_run "PointsToRoundsModel" 10 ((some .int)) false rm_M_run (tp E A X0) sz (zPi (tRun F X0 seed (nI sn)).1 (tp E A (tRun F X0 seed (nI sn)).2))) 0 0 34 [some (.ref (A 44)), some (.int (seed)), some (.int (nI (sn))), some (.int (nI (s))), none, none, none, none, none, none] [] (tp E A Ys)
          try dsimp only at ihs
          refine z_iload_n d_M_run_34 rfl ?_
          refine z_iconst d_M_run_35 ic_4 ?_
          refine z_icmp_ge (tgt := 52) d_M_run_36 (by decide) (fun c36 => absurd c36 (nI_ge hs (by omega))) (fun c36 => ?_)
          have c36n := (not_congr (nI_leI (by omega) (by omega))).mp c36
          refine z_aload_n d_M_run_39 rfl ?_
          refine z_get fa_M_91 d_M_run_40 (tp_o hA) rfl ?_
          refine z_iload_n d_M_run_43 rfl ?_
          refine z_iconst (v := -1) d_M_run_44 ic_m1 ?_
          refine t_ast (kf := 36) (j := s) d_M_run_45 hA rfl rfl (show s < 4 from by omega) (by decide) ?_
          refine z_iinc (v := nI (s + 1)) d_M_run_46 (zlt rfl) rfl (zinc _) ?_
          refine z_goto (tgt := 34) d_M_run_49 (by decide) ?_
          exact ihs
        rw [zit_fl (g := fun _ => -1)]
        show zG (zcx l E b_M_run "PointsToRoundsModel" 10 ((some .int)) false rm_M_run (tp E A X0) sz (zPi (tRun F X0 seed (nI sn)).1 (tp E A (tRun F X0 seed (nI sn)).2))) 0 0 34 [some (.ref (A 44)), some (.int (seed)), some (.int (nI (sn))), some (.int (nI 4)), none, none, none, none, none, none] [] (tp E A (fl (tFg (tKnow F X0)) 36 4 (fun _ => -1)))
        refine z_iload_n d_M_run_34 rfl ?_
        refine z_iconst d_M_run_35 ic_4 ?_
        refine z_icmp_ge (tgt := 52) d_M_run_36 (by decide) (fun c36 => ?_) (fun c36 => absurd (by decide +kernel) c36)
        refine z_aload_n d_M_run_52 rfl ?_
        refine z_iconst d_M_run_53 ic_0 ?_
        refine z_iconst d_M_run_54 ic_0 ?_
        refine z_iconst d_M_run_55 ic_0 ?_
        have e0 : cn (fl (tFg (tKnow F X0)) 36 4 (fun _ => -1)) 37 = 0 := nI_clamp (by decide)
        refine z_cVv (c_M_open l E hA _ (by rw [e0]; rfl) (by rw [e0]; decide) _ _ _) cb_M_open ci_M_open ln_M_228 (tp_o hA) rfl rfl (zlq rfl) rfl (zlq rfl) (zlq rfl) d_M_run_56 ?_
        refine z_iload_n d_M_run_59 rfl ?_
        refine z_istore_n d_M_run_60 (zlt rfl) ?_
        refine z_iconst d_M_run_61 ic_1 ?_
        refine z_istore d_M_run_62 (zlt rfl) ?_
        refine z_iconst d_M_run_64 ic_0 ?_
        refine z_istore d_M_run_65 (zlt rfl) ?_
        have hTk := zit_inv (f := fun _ w => tStp w) (I := fun _ w => tInv w.2.2 ∧ rInv w.2.2) (N := sn) (x0 := (seed, true, tR0 (tKnow F X0))) ⟨tInv_tsm tR0_tsm RUN_19 hKI, tR0_inv hKI (by rw [hK4]; exact c18n)⟩ (fun k w _ h => ⟨(tStp_inv h.1 h.2).2.2.1, (tStp_inv h.1 h.2).2.2.2⟩)
        refine zlp (Gh := fun (kz : Nat) (z : Int32 × Bool × zSt) => zG (zcx l E b_M_run "PointsToRoundsModel" 10 ((some .int)) false rm_M_run (tp E A X0) sz (zPi (tRun F X0 seed (nI sn)).1 (tp E A (tRun F X0 seed (nI sn)).2))) 0 0 67 [some (.ref (A 44)), some (.int (seed)), some (.int (nI (sn))), some (.int (z.1)), some (.int (bI (z.2.1))), some (.int (nI (kz))), none, none, none, none] [] (tp E A z.2.2)) (f := fun _ w => tStp w) (N := sn) (x0 := (seed, true, tR0 (tKnow F X0))) ?_ ?_
        rotate_left
        · intro k hk ihk
          have hYk := hTk k (by omega)
          generalize zit _ k _ = zk at ihk hYk ⊢
          obtain ⟨z, g, X⟩ := zk
          obtain ⟨hX, hR⟩ := hYk
          replace hX : tInv X := hX
          replace hR : rInv X := hR
          obtain ⟨⟨⟨h0, b0⟩, ⟨h2, b2⟩, ⟨h4, b4⟩, ⟨h7, b7⟩, ⟨h16, b16⟩⟩, h18, h19, hp, hf, hs, hst⟩ := id hX
          obtain ⟨⟨r37, r37a, r37b⟩, ⟨r32, r32b⟩, rfm, rfn, ros, roe, rof, rst⟩ := id hR
          show zG (zcx l E b_M_run "PointsToRoundsModel" 10 ((some .int)) false rm_M_run (tp E A X0) sz (zPi (tRun F X0 seed (nI sn)).1 (tp E A (tRun F X0 seed (nI sn)).2))) 0 0 67 [some (.ref (A 44)), some (.int (seed)), some (.int (nI (sn))), some (.int (z)), some (.int (bI (g))), some (.int (nI (k))), none, none, none, none] [] (tp E A X)
          try dsimp only at ihk
          refine z_iload d_M_run_67 rfl ?_
          refine z_iload_n d_M_run_69 rfl ?_
          refine z_icmp_ge (tgt := 167) d_M_run_70 (by decide) (fun c70 => absurd c70 (nI_ge hk (by omega))) (fun c70 => ?_)
          have c70n := (not_congr (nI_leI (by omega) (by omega))).mp c70
          refine z_iload_n d_M_run_73 rfl ?_
          refine z_ldc k_1096 d_M_run_74 ?_
          refine z_imul d_M_run_76 ?_
          refine z_ldc k_1097 d_M_run_77 ?_
          refine z_iadd d_M_run_79 ?_
          refine z_istore_n d_M_run_80 (zlt rfl) ?_
          rw [show z * 1664525 + 1013904223 = tAdv z from rfl]
          refine z_aload_n d_M_run_81 rfl ?_
          refine z_get fa_M_94 d_M_run_82 (tp_o hA) rfl ?_
          refine z_aload_n d_M_run_85 rfl ?_
          refine z_get fa_M_222 d_M_run_86 (tp_o hA) rfl ?_
          refine z_top r37 ?_
          refine z_iconst d_M_run_89 ic_1 ?_
          refine z_isub d_M_run_90 ?_
          refine z_top (pk_sub (a := cn X 37) (b := 1) (by omega)) ?_
          refine z_iald (cn X 37 - 1) d_M_run_91 (tp_a hA 38 rfl) rfl (show cn X 37 - 1 < 10 from by omega) (by decide) ?_
          refine z_istore d_M_run_92 (zlt rfl) ?_
          refine z_aload_n d_M_run_94 rfl ?_
          refine z_iload d_M_run_95 rfl ?_
          refine z_cVi (c_M_many l E hA X hX _) cb_M_many ci_M_many ln_M_246 (tp_o hA) rfl rfl (zlq rfl) rfl (zlq rfl) (zlq rfl) d_M_run_97 ?_
          refine z_istore d_M_run_100 (zlt rfl) ?_
          refine z_iload_n d_M_run_102 rfl ?_
          refine z_iconst d_M_run_103 ic_1 ?_
          refine z_iushr d_M_run_104 ?_
          refine z_iload d_M_run_105 rfl ?_
          refine z_iconst d_M_run_107 ic_1 ?_
          refine z_iadd d_M_run_108 ?_
          refine z_top (nI_add (mny X (X 38 (cn X 37 - 1))) (1)) ?_
          have hmy : mny X (X 38 (cn X 37 - 1)) ≤ 60 := mny_le b7
          refine z_irem d_M_run_109 (nI_ne0 (by omega) (by omega)) ?_
          refine z_top (zR_rem (tAdv z) hmy) ?_
          have hpk : tPick X (tAdv z) < mny X (X 38 (cn X 37 - 1)) + 1 := Nat.mod_lt _ (by omega)
          have hpe : zR (tAdv z) % (mny X (X 38 (cn X 37 - 1)) + 1) = tPick X (tAdv z) := rfl
          rw [hpe]
          refine z_istore d_M_run_110 (zlt rfl) ?_
          refine z_iload d_M_run_112 rfl ?_
          refine z_iload d_M_run_114 rfl ?_
          refine z_icmp_ge (tgt := 134) d_M_run_116 (by decide) (fun c116 => ?_) (fun c116 => ?_)
          · have c116n := (nI_leI (by omega) (by omega)).mp c116
            refine z_aload_n d_M_run_134 rfl ?_
            refine z_cVv (c_M_leave l E hA X hR) cb_M_leave ci_M_leave ln_M_256 (tp_o hA) rfl rfl (zlq rfl) rfl (zlq rfl) (zlq rfl) d_M_run_135 ?_
            refine z_aload_n d_M_run_138 rfl ?_
            have eS : tS1 X (tAdv z) = (tLeave X) := by
              unfold tS1
              rw [if_pos c116n]
            have hV := tStp_inv (w := (z, g, X)) hX hR
            rw [← eS]
            refine z_cVi (c_M_holds l E hA (tS1 X (tAdv z)) hV.1 hV.2.1) cb_M_holds ci_M_holds ln_M_259 (tp_o hA) rfl rfl (zlq rfl) rfl (zlq rfl) (zlq rfl) d_M_run_139 ?_
            refine z_istore d_M_run_142 (zlt rfl) ?_
            refine z_iload d_M_run_144 rfl ?_
            suffices J146 : zG (zcx l E b_M_run "PointsToRoundsModel" 10 ((some .int)) false rm_M_run (tp E A X0) sz (zPi (tRun F X0 seed (nI sn)).1 (tp E A (tRun F X0 seed (nI sn)).2))) 0 0 159 [some (.ref (A 44)), some (.int (seed)), some (.int (nI (sn))), some (.int (tAdv z)), some (.int (bI (g))), some (.int (nI (k))), some (.int (X 38 (cn X 37 - 1))), some (.int (nI (mny X (X 38 (cn X 37 - 1))))), some (.int (nI (tPick X (tAdv z)))), some (.int (bI ((tHolds (tS1 X (tAdv z))).1)))] [.int (bI (g && (tHolds (tS1 X (tAdv z))).1))] (tp E A (tHolds (tS1 X (tAdv z))).2) by
              refine z_if_eq (tgt := 158) d_M_run_146 (by decide) (fun c146 => ?_) (fun c146 => ?_)
              · have c146n := bI_e.mp c146
                refine z_iconst d_M_run_158 ic_0 ?_
                exact z_top (x := nI 0) (y := bI (g && (tHolds (tS1 X (tAdv z))).1)) (by rw [show (g && (tHolds (tS1 X (tAdv z))).1) = false from by rw [c146n]; rfl]; rfl) J146
              · have c146n := bI_n.mp c146
                refine z_iload d_M_run_149 rfl ?_
                refine z_if_eq (tgt := 158) d_M_run_151 (by decide) (fun c151 => ?_) (fun c151 => ?_)
                · have c151n := bI_e.mp c151
                  refine z_iconst d_M_run_158 ic_0 ?_
                  exact z_top (x := nI 0) (y := bI (g && (tHolds (tS1 X (tAdv z))).1)) (by rw [show (g && (tHolds (tS1 X (tAdv z))).1) = false from by rw [c146n, c151n]; rfl]; rfl) J146
                · have c151n := bI_n.mp c151
                  refine z_iconst d_M_run_154 ic_1 ?_
                  refine z_goto (tgt := 159) d_M_run_155 (by decide) ?_
                  exact z_top (x := nI 1) (y := bI (g && (tHolds (tS1 X (tAdv z))).1)) (by rw [show (g && (tHolds (tS1 X (tAdv z))).1) = true from by rw [c146n, c151n]; rfl]; rfl) J146
            refine z_istore d_M_run_159 (zlt rfl) ?_
            refine z_iinc (v := nI (k + 1)) d_M_run_161 (zlt rfl) rfl (zinc _) ?_
            refine z_goto (tgt := 67) d_M_run_164 (by decide) ?_
            refine z_fl 6 ?_
            refine z_fl 7 ?_
            refine z_fl 8 ?_
            refine z_fl 9 ?_
            exact ihk
          · have c116n := (not_congr (nI_leI (by omega) (by omega))).mp c116
            refine z_aload_n d_M_run_119 rfl ?_
            refine z_aload_n d_M_run_120 rfl ?_
            refine z_iload d_M_run_121 rfl ?_
            refine z_iload d_M_run_123 rfl ?_
            refine z_cVi (c_M_statementOf l E hA X hX _ (tPick X (tAdv z)) (by omega)) cb_M_statementOf ci_M_statementOf ln_M_250 (tp_o hA) rfl rfl (zlq rfl) rfl (zlq rfl) (zlq rfl) d_M_run_125 ?_
            obtain ⟨ij, hij, es, -⟩ := sof_nat (X := X) (m := X 38 (cn X 37 - 1)) (t := tPick X (tAdv z)) (by omega) b7
            rw [es]
            refine z_cVv (c_M_act l E hA X hX hR ij hij) cb_M_act ci_M_act ln_M_253 (tp_o hA) rfl rfl (zlq rfl) rfl (zlq rfl) (zlq rfl) d_M_run_128 ?_
            refine z_goto (tgt := 138) d_M_run_131 (by decide) ?_
            refine z_aload_n d_M_run_138 rfl ?_
            have eS : tS1 X (tAdv z) = (tAct X ij) := by
              unfold tS1
              rw [if_neg c116n, es, nI_clamp (by omega)]
            have hV := tStp_inv (w := (z, g, X)) hX hR
            rw [← eS]
            refine z_cVi (c_M_holds l E hA (tS1 X (tAdv z)) hV.1 hV.2.1) cb_M_holds ci_M_holds ln_M_259 (tp_o hA) rfl rfl (zlq rfl) rfl (zlq rfl) (zlq rfl) d_M_run_139 ?_
            refine z_istore d_M_run_142 (zlt rfl) ?_
            refine z_iload d_M_run_144 rfl ?_
            suffices J146 : zG (zcx l E b_M_run "PointsToRoundsModel" 10 ((some .int)) false rm_M_run (tp E A X0) sz (zPi (tRun F X0 seed (nI sn)).1 (tp E A (tRun F X0 seed (nI sn)).2))) 0 0 159 [some (.ref (A 44)), some (.int (seed)), some (.int (nI (sn))), some (.int (tAdv z)), some (.int (bI (g))), some (.int (nI (k))), some (.int (X 38 (cn X 37 - 1))), some (.int (nI (mny X (X 38 (cn X 37 - 1))))), some (.int (nI (tPick X (tAdv z)))), some (.int (bI ((tHolds (tS1 X (tAdv z))).1)))] [.int (bI (g && (tHolds (tS1 X (tAdv z))).1))] (tp E A (tHolds (tS1 X (tAdv z))).2) by
              refine z_if_eq (tgt := 158) d_M_run_146 (by decide) (fun c146 => ?_) (fun c146 => ?_)
              · have c146n := bI_e.mp c146
                refine z_iconst d_M_run_158 ic_0 ?_
                exact z_top (x := nI 0) (y := bI (g && (tHolds (tS1 X (tAdv z))).1)) (by rw [show (g && (tHolds (tS1 X (tAdv z))).1) = false from by rw [c146n]; rfl]; rfl) J146
              · have c146n := bI_n.mp c146
                refine z_iload d_M_run_149 rfl ?_
                refine z_if_eq (tgt := 158) d_M_run_151 (by decide) (fun c151 => ?_) (fun c151 => ?_)
                · have c151n := bI_e.mp c151
                  refine z_iconst d_M_run_158 ic_0 ?_
                  exact z_top (x := nI 0) (y := bI (g && (tHolds (tS1 X (tAdv z))).1)) (by rw [show (g && (tHolds (tS1 X (tAdv z))).1) = false from by rw [c146n, c151n]; rfl]; rfl) J146
                · have c151n := bI_n.mp c151
                  refine z_iconst d_M_run_154 ic_1 ?_
                  refine z_goto (tgt := 159) d_M_run_155 (by decide) ?_
                  exact z_top (x := nI 1) (y := bI (g && (tHolds (tS1 X (tAdv z))).1)) (by rw [show (g && (tHolds (tS1 X (tAdv z))).1) = true from by rw [c146n, c151n]; rfl]; rfl) J146
            refine z_istore d_M_run_159 (zlt rfl) ?_
            refine z_iinc (v := nI (k + 1)) d_M_run_161 (zlt rfl) rfl (zinc _) ?_
            refine z_goto (tgt := 67) d_M_run_164 (by decide) ?_
            refine z_fl 6 ?_
            refine z_fl 7 ?_
            refine z_fl 8 ?_
            refine z_fl 9 ?_
            exact ihk
        show zG (zcx l E b_M_run "PointsToRoundsModel" 10 ((some .int)) false rm_M_run (tp E A X0) sz (zPi (tRun F X0 seed (nI sn)).1 (tp E A (tRun F X0 seed (nI sn)).2))) 0 0 67 [some (.ref (A 44)), some (.int (seed)), some (.int (nI (sn))), some (.int ((tRn (tKnow F X0) seed sn).1)), some (.int (bI ((tRn (tKnow F X0) seed sn).2.1))), some (.int (nI (sn))), none, none, none, none] [] (tp E A (tRn (tKnow F X0) seed sn).2.2)
        refine z_iload d_M_run_67 rfl ?_
        refine z_iload_n d_M_run_69 rfl ?_
        refine z_icmp_ge (tgt := 167) d_M_run_70 (by decide) (fun c70 => ?_) (fun c70 => absurd (nI_le (Nat.le_refl _) (by omega)) c70)
        have c70n := (nI_leI (by omega) (by omega)).mp c70
        refine z_iload d_M_run_167 rfl ?_
        refine z_if_eq (tgt := 176) d_M_run_169 (by decide) (fun c169 => ?_) (fun c169 => ?_)
        · have c169n := bI_e.mp c169
          refine z_iconst d_M_run_176 ic_0 ?_
          exact z_iret rfl d_M_run_177 (zlq rfl) (zlq rfl) (by unfold tRun; rw [if_neg c1, if_pos c8, if_neg c18, nI_clamp (show sn < 2 ^ 31 by omega)]; exact ⟨by rw [c169n]; rfl, rfl⟩)
        · have c169n := bI_n.mp c169
          refine z_iconst d_M_run_172 ic_1 ?_
          refine z_goto (tgt := 177) d_M_run_173 (by decide) ?_
          exact z_iret rfl d_M_run_177 (zlq rfl) (zlq rfl) (by unfold tRun; rw [if_neg c1, if_pos c8, if_neg c18, nI_clamp (show sn < 2 ^ 31 by omega)]; exact ⟨by rw [c169n]; rfl, rfl⟩)
      · have c18n := (nI_z (by omega)).mp c18
        refine z_bipush (v := -3) d_M_run_21 bp_m3 ?_
        exact z_iret rfl d_M_run_23 (zlq rfl) (zlq rfl) (by unfold tRun; rw [if_neg c1, if_pos c8, if_pos c18]; exact ⟨rfl, rfl⟩)
    · refine z_bipush (v := -2) d_M_run_11 bp_m2 ?_
      exact z_iret rfl d_M_run_13 (zlq rfl) (zlq rfl) (by unfold tRun; rw [if_neg c1, if_neg c8]; exact ⟨rfl, rfl⟩)
