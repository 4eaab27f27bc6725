/-! the component: Run.call -/
theorem z_v {C : zC} {k n pc : Nat} {L : zL} {st : List Value} {h : zPH} {v w : Value} (hh : v = w) (kk : zG C k n pc L (w :: st) h) : zG C k n pc L (v :: st) h := by rw [hh]; exact kk
theorem mkF_41 {R : zSt} {n : Nat} {m c t : Int32} {j i : Nat} (hj : j < n) (hi : i < 6) : mkF R n m c t 41 (6 * j + i) = R 41 (6 * j + i) := by
  unfold mkF
  rw [zc_in, if_neg (by omega)]
  rfl
def cE0 (R : zSt) : zSt := va_up R 43 (fun _ => R 43 0 + nI 1)
def cE1 (X R : zSt) (i t : Nat) (m c : Int32) : zSt := mkF (cE0 R) (t + 1) m c (X 10 i)
def cEn (X R : zSt) (i t : Nat) (x m c : Int32) : zSt := cu (cu (cu (cE1 X R i t m c) 41 (6 * (t + 1) + 0) x) 41 (6 * (t + 1) + 1) (R 41 (6 * t + ne X 13 i))) 41 (6 * (t + 1) + 2) (R 41 (6 * t + ne X 14 i))
def cCx (X R : zSt) (x : Int32) : Int32 := if X 18 0 = 0 then nI 0 else nI (1 + ne R 33 x.toNatClampNeg)
abbrev knC (K : Nat → Nat → Nat) (t i : Nat) : Nat → Nat → Nat := ku (knF K (t + 1) i) 103 0 (t + 1 + 1)
abbrev rm_Ru_call : Room := { frames := 5, cells := 2, slots := 20, locals := 150 }
set_option maxHeartbeats 4000000 in
set_option maxRecDepth 100000 in
theorem c_Ru_call (l : Launch) (E : zE) {A : rl → Nat} {K : Nat → Nat → Nat} (hA : cIj K A) (X S R : zSt) (hX : tInv X) (hV : rV X R) (hR : kR K X R) (i : Nat) (hi : i < cn X 7) (hi8 : i < K 106 0) (hk : ne X 9 i = 7) (t : Nat) (ht : cn R 37 = t + 1) (x : Int32) (hx : oR (cn R 32) x) : zM l E y_Ru_call b_Ru_call 6 (none) rm_Ru_call [.ref (A (26, 0)), .ref (A (8, i)), .ref (A (35, t)), va_rf (thr A x)] (cp E A K X S R) (fun v h' => v = none ∧ ((h' = cp E A K X S R ∧ (x < 0 ∨ t + 1 = 10 ∨ fdf X (X 12 i) 9 (X 17 (ne R 33 x.toNatClampNeg)) < 0)) ∨ ∃ A', h' = cp E A' (knC K t i) X S (cEn X R i t x (fdf X (X 12 i) 9 (X 17 (ne R 33 x.toNatClampNeg))) (cCx X R x)) ∧ cIj (knC K t i) A' ∧ (∀ r, r ≠ (35, t + 1) → r ≠ (36, t + 1) → A' r = A r) ∧ ¬ x < 0 ∧ t + 1 ≠ 10 ∧ 0 ≤ fdf X (X 12 i) 9 (X 17 (ne R 33 x.toNatClampNeg)))) := by
  obtain ⟨⟨⟨h0, b0⟩, ⟨h2, b2⟩, ⟨h4, b4⟩, ⟨h7, b7⟩, ⟨h16, b16⟩⟩, h18, h19, hp, hf0, hs, hst⟩ := id hX
  obtain ⟨⟨v37, v37a, v37b⟩, ⟨v32, v32b⟩, vfr, v41, v33, v35, v34, v36⟩ := id hV
  obtain ⟨hf, ⟨k102, k107⟩, ⟨k103, k108⟩, ⟨k20a, k20b, k20c⟩, kby⟩ := id hR
  obtain ⟨⟨s8, l8⟩, ⟨s9, l9⟩, ⟨s10, l10, l10a⟩, ⟨s11, l11, l11a, l11b⟩, s12, s13, s15⟩ := hst i hi
  obtain ⟨⟨s13, l13⟩, s14, l14⟩ := s13 hk
  rcases hx with rfl | ⟨o, ho, rfl⟩
  · rw [thr_m1]
    refine zM_w (by decide +kernel) rfl rfl (fun sz => ?_)
    refine z_aload_nN d_Ru_call_0 rfl ?_
    refine z_ifnullN (tgt := 16) d_Ru_call_1 (by decide) ?_
    exact z_vret rfl d_Ru_call_16 (zlq rfl) (zlq rfl) (⟨rfl, Or.inl ⟨rfl, Or.inl zneg⟩⟩)
  · rw [thr_n (by omega)]
    refine zM_w (by decide +kernel) rfl rfl (fun sz => ?_)
    obtain ⟨v33a, v33b⟩ := v33 o ho
    have hclo : (nI o).toNatClampNeg = o := nI_clamp (by omega)
    rw [hclo]
    refine z_aload_n d_Ru_call_0 rfl ?_
    refine z_ifnullR d_Ru_call_1 ?_
    refine z_aload_n d_Ru_call_4 rfl ?_
    refine z_get fa_Ru_25 d_Ru_call_5 (cp_26 hA hf) rfl ?_
    refine z_cVi (c_sizeP l E hA _ _ _ hf (by omega)) cb_AD_size ci_AD_size ln_Ru_81 (cp_29 hA hf) rfl rfl (zlq rfl) rfl (zlq rfl) (zlq rfl) d_Ru_call_8 ?_
    refine z_bipush d_Ru_call_11 bp_10 ?_
    refine z_icmp_ne (tgt := 17) d_Ru_call_13 (by decide) (fun c13 => ?_) (fun c13 => ?_)
    · have c13n := (not_congr (nI_eq (by omega) (by omega))).mp c13
      refine z_aload_n d_Ru_call_17 rfl ?_
      refine z_get fa_Ru_3 d_Ru_call_18 (cp_26 hA hf) rfl ?_
      refine z_aload_n d_Ru_call_21 rfl ?_
      refine z_get fa_Ru_3 d_Ru_call_22 (cp_26 hA hf) rfl ?_
      refine z_get fa_Ru_128 d_Ru_call_25 (cp_0 hA) rfl ?_
      refine z_aload_n d_Ru_call_28 rfl ?_
      refine z_get fa_Ru_117 d_Ru_call_29 (cp_33 hA (j := o) ⟨by omega, hf⟩) rfl ?_
      refine z_top v33a ?_
      refine z_iald (ne R 33 o) d_Ru_call_32 (cp_1_4 hA) rfl (show ne R 33 o < 20 from by omega) (by decide) ?_
      refine z_aload_n d_Ru_call_33 rfl ?_
      refine z_get fa_Ru_118 d_Ru_call_34 (cp_8 hA (j := i) (by omega)) rfl ?_
      refine z_cVi (c_P_found l E hA _ _ _ hX (X 17 (ne R 33 o)) (X 12 (i)) (Or.inr (hs _ v33b))) cb_P_found ci_P_found ln_Ru_142 (cp_0 hA) rfl rfl (zlq rfl) rfl (zlq rfl) (zlq rfl) d_Ru_call_37 ?_
      refine z_istore d_Ru_call_40 (zlt rfl) ?_
      refine z_iload d_Ru_call_42 rfl ?_
      refine z_if_ge (tgt := 48) d_Ru_call_44 (by decide) (fun c44 => ?_) (fun c44 => ?_)
      · obtain ⟨mn, hmn, em⟩ := fdf_nat 9 _ c44 (by omega)
        rw [em]
        refine z_aload_n d_Ru_call_48 rfl ?_
        refine z_dup d_Ru_call_49 rfl ?_
        refine z_get fa_Ru_146 d_Ru_call_50 (cp_26 hA hf) rfl ?_
        refine z_iconst d_Ru_call_53 ic_1 ?_
        refine z_iadd d_Ru_call_54 ?_
        refine z_put fp_Ru_146 d_Ru_call_55 (cp_26 hA hf) (vp_nar_int _) rfl (zlt rfl) ?_
        refine z_eqh (cp_p26_4 hA hf) ?_
        by_cases c71 : X 18 0 = 0
        · refine z_new nw_Ru_43 d_Ru_call_58 (zlq rfl) (zlq rfl) (fun w hw => ?_)
          have nw0 : ∀ r, cdm K r → A r ≠ w := fun r hr => cp_out hA hw hr
          refine z_dup d_Ru_call_61 rfl ?_
          refine z_iload d_Ru_call_62 rfl ?_
          refine z_aload_n d_Ru_call_64 rfl ?_
          refine z_get fa_Ru_3 d_Ru_call_65 ((zpu_n (nw0 (26, 0) ⟨rfl, hf⟩)).trans (cp_26 hA hf)) rfl ?_
          refine z_get fa_Ru_149 d_Ru_call_68 ((zpu_n (nw0 (0, 0) rfl)).trans (cp_0 hA)) rfl ?_
          refine z_if_ne (tgt := 78) d_Ru_call_71 (by decide) (fun c => absurd c71 c) (fun _ => ?_)
          refine z_iconst d_Ru_call_74 ic_0 ?_
          refine z_goto (tgt := 84) d_Ru_call_75 (by decide) ?_
          refine z_aload_n d_Ru_call_84 rfl ?_
          refine z_callI (c_Fr_initR l E _ w (nI mn) (nI 0) (A (8, i)) zpu_s) cb_Fr_init ii_Fr_init ln_Ru_45 rfl rfl (zlq rfl) rfl (zlq rfl) (zlq rfl) d_Ru_call_85 (fun v h' hv => ?_)
          obtain ⟨rfl, w2, hw2, rfl⟩ := hv
          obtain ⟨A1, hA1, rfl, rfl, hr1, hle⟩ := cp_newF hA hf (nI mn) (nI 0) (X 10 i) i (t + 1) (by omega) (by omega) (by omega) (.ref (A (8, i))) (by rw [if_neg (by omega)]) w w2 _ hw hw2
          have ecx : cCx X R (nI o) = nI 0 := by unfold cCx; rw [if_pos c71]
          rw [ecx]
          refine z_le hle ?_
          rw [← hr1 (26, 0) (fun z => by injection z with z1; exact absurd z1 (by decide)) (fun z => by injection z with z1; exact absurd z1 (by decide)), ← hr1 (8, i) (fun z => by injection z with z1; exact absurd z1 (by decide)) (fun z => by injection z with z1; exact absurd z1 (by decide)), ← hr1 (33, o) (fun z => by injection z with z1; exact absurd z1 (by decide)) (fun z => by injection z with z1; exact absurd z1 (by decide)), ← hr1 (35, t) (fun z => by injection z with z1 z2; omega) (fun z => by injection z with z1; exact absurd z1 (by decide))]
          have hA := hA1
          have hf : knF K (t + 1) i 109 0 ≠ 0 := hf
          have u108 : t + 1 < knF K (t + 1) i 108 0 := by show t + 1 < t + 1 + 1; omega
          have u107 : cn R 32 ≤ knF K (t + 1) i 107 0 := by show cn R 32 ≤ K 107 0; omega
          have u103 : knF K (t + 1) i 103 0 = t + 1 := by show K 103 0 = t + 1; omega
          have u106 : i < knF K (t + 1) i 106 0 := hi8
          refine z_astore d_Ru_call_88 (zlt rfl) ?_
          refine z_aload d_Ru_call_90 rfl ?_
          refine z_get fa_Ru_91 d_Ru_call_92 (cp_35 hA (j := t + 1) ⟨by omega, hf⟩) rfl ?_
          refine z_iconst d_Ru_call_95 ic_0 ?_
          refine z_aload_n d_Ru_call_96 rfl ?_
          refine z_v (show _ = va_rf (thr A1 (nI o)) from by rw [thr_n (by omega)]; rfl) ?_
          refine z_ast36 (j := t + 1) d_Ru_call_97 hA hf u108 (i := 0) (by decide) (x := nI o) (Or.inr ⟨o, ho, rfl⟩) u107 v32b ?_
          refine z_aload d_Ru_call_98 rfl ?_
          refine z_get fa_Ru_91 d_Ru_call_100 (cp_35 hA (j := t + 1) ⟨by omega, hf⟩) rfl ?_
          refine z_iconst d_Ru_call_103 ic_1 ?_
          refine z_aload_n d_Ru_call_104 rfl ?_
          refine z_get fa_Ru_91 d_Ru_call_105 (cp_35 hA (j := t) ⟨by omega, hf⟩) rfl ?_
          refine z_aload_n d_Ru_call_108 rfl ?_
          refine z_get fa_Ru_152 d_Ru_call_109 (cp_8 hA (j := i) (by omega)) rfl ?_
          refine z_top s13 ?_
          refine z_aaldT (ne X 13 i) d_Ru_call_112 (cp_36 hA (j := t) ⟨by omega, hf⟩) rfl (show ne X 13 i < 6 by omega) (by decide) ?_
          refine z_q (show _ = thr A1 (R 41 (6 * t + ne X 13 i)) from (if_pos (show ne X 13 i < 6 by omega)).trans (by show thr A1 ((cu (cE1 X R i t (nI mn) (nI 0)) 41 (6 * (t + 1) + 0) (nI o)) 41 (6 * t + ne X 13 i)) = _; unfold cE1; rw [cu_i (by omega), mkF_41 (by omega) (by omega)]; rfl)) ?_
          refine z_ast36 (j := t + 1) d_Ru_call_113 hA hf u108 (i := 1) (by decide) (x := R 41 (6 * t + ne X 13 i)) (v41 t (by omega) (ne X 13 i) l13) u107 v32b ?_
          refine z_aload d_Ru_call_114 rfl ?_
          refine z_get fa_Ru_91 d_Ru_call_116 (cp_35 hA (j := t + 1) ⟨by omega, hf⟩) rfl ?_
          refine z_iconst d_Ru_call_119 ic_2 ?_
          refine z_aload_n d_Ru_call_120 rfl ?_
          refine z_get fa_Ru_91 d_Ru_call_121 (cp_35 hA (j := t) ⟨by omega, hf⟩) rfl ?_
          refine z_aload_n d_Ru_call_124 rfl ?_
          refine z_get fa_Ru_155 d_Ru_call_125 (cp_8 hA (j := i) (by omega)) rfl ?_
          refine z_top s14 ?_
          refine z_aaldT (ne X 14 i) d_Ru_call_128 (cp_36 hA (j := t) ⟨by omega, hf⟩) rfl (show ne X 14 i < 6 by omega) (by decide) ?_
          refine z_q (show _ = thr A1 (R 41 (6 * t + ne X 14 i)) from (if_pos (show ne X 14 i < 6 by omega)).trans (by show thr A1 ((cu (cu (cE1 X R i t (nI mn) (nI 0)) 41 (6 * (t + 1) + 0) (nI o)) 41 (6 * (t + 1) + 1) (R 41 (6 * t + ne X 13 i))) 41 (6 * t + ne X 14 i)) = _; unfold cE1; rw [cu_i (by omega), cu_i (by omega), mkF_41 (by omega) (by omega)]; rfl)) ?_
          refine z_ast36 (j := t + 1) d_Ru_call_129 hA hf u108 (i := 2) (by decide) (x := R 41 (6 * t + ne X 14 i)) (v41 t (by omega) (ne X 14 i) l14) u107 v32b ?_
          refine z_aload_n d_Ru_call_130 rfl ?_
          refine z_get fa_Ru_25 d_Ru_call_131 (cp_26 hA hf) rfl ?_
          refine z_aload d_Ru_call_134 rfl ?_
          refine z_cVv (c_push l E hA _ _ _ hf (t + 1) u103 (by omega) u108) cb_AD_push ci_AD_push ln_Ru_48 (cp_29 hA hf) rfl rfl (zlq rfl) rfl (zlq rfl) (zlq rfl) d_Ru_call_136 ?_
          have hA := cIj_103 (n := t + 1 + 1) hA
          exact z_vret rfl d_Ru_call_139 (zlq rfl) (zlq rfl) (⟨rfl, Or.inr ⟨A1, rfl, hA, hr1, nI_pos (by omega), by omega, nI_pos' (by omega)⟩⟩)
        · refine z_new nw_Ru_43 d_Ru_call_58 (zlq rfl) (zlq rfl) (fun w hw => ?_)
          have nw0 : ∀ r, cdm K r → A r ≠ w := fun r hr => cp_out hA hw hr
          refine z_dup d_Ru_call_61 rfl ?_
          refine z_iload d_Ru_call_62 rfl ?_
          refine z_aload_n d_Ru_call_64 rfl ?_
          refine z_get fa_Ru_3 d_Ru_call_65 ((zpu_n (nw0 (26, 0) ⟨rfl, hf⟩)).trans (cp_26 hA hf)) rfl ?_
          refine z_get fa_Ru_149 d_Ru_call_68 ((zpu_n (nw0 (0, 0) rfl)).trans (cp_0 hA)) rfl ?_
          refine z_if_ne (tgt := 78) d_Ru_call_71 (by decide) (fun _ => ?_) (fun c => absurd c c71)
          refine z_iconst d_Ru_call_78 ic_1 ?_
          refine z_aload_n d_Ru_call_79 rfl ?_
          refine z_get fa_Ru_117 d_Ru_call_80 ((zpu_n (nw0 (33, o) ⟨by omega, hf⟩)).trans (cp_33 hA (j := o) ⟨by omega, hf⟩)) rfl ?_
          refine z_top (show _ = nI (ne R 33 o) from v33a) ?_
          refine z_iadd d_Ru_call_83 ?_
          refine z_top (nI_add 1 (ne R 33 o)) ?_
          refine z_aload_n d_Ru_call_84 rfl ?_
          refine z_callI (c_Fr_initR l E _ w (nI mn) (nI (1 + ne R 33 o)) (A (8, i)) zpu_s) cb_Fr_init ii_Fr_init ln_Ru_45 rfl rfl (zlq rfl) rfl (zlq rfl) (zlq rfl) d_Ru_call_85 (fun v h' hv => ?_)
          obtain ⟨rfl, w2, hw2, rfl⟩ := hv
          obtain ⟨A1, hA1, rfl, rfl, hr1, hle⟩ := cp_newF hA hf (nI mn) (nI (1 + ne R 33 o)) (X 10 i) i (t + 1) (by omega) (by omega) (by omega) (.ref (A (8, i))) (by rw [if_neg (by omega)]) w w2 _ hw hw2
          have ecx : cCx X R (nI o) = nI (1 + ne R 33 o) := by unfold cCx; rw [if_neg c71, hclo]
          rw [ecx]
          refine z_le hle ?_
          rw [← hr1 (26, 0) (fun z => by injection z with z1; exact absurd z1 (by decide)) (fun z => by injection z with z1; exact absurd z1 (by decide)), ← hr1 (8, i) (fun z => by injection z with z1; exact absurd z1 (by decide)) (fun z => by injection z with z1; exact absurd z1 (by decide)), ← hr1 (33, o) (fun z => by injection z with z1; exact absurd z1 (by decide)) (fun z => by injection z with z1; exact absurd z1 (by decide)), ← hr1 (35, t) (fun z => by injection z with z1 z2; omega) (fun z => by injection z with z1; exact absurd z1 (by decide))]
          have hA := hA1
          have hf : knF K (t + 1) i 109 0 ≠ 0 := hf
          have u108 : t + 1 < knF K (t + 1) i 108 0 := by show t + 1 < t + 1 + 1; omega
          have u107 : cn R 32 ≤ knF K (t + 1) i 107 0 := by show cn R 32 ≤ K 107 0; omega
          have u103 : knF K (t + 1) i 103 0 = t + 1 := by show K 103 0 = t + 1; omega
          have u106 : i < knF K (t + 1) i 106 0 := hi8
          refine z_astore d_Ru_call_88 (zlt rfl) ?_
          refine z_aload d_Ru_call_90 rfl ?_
          refine z_get fa_Ru_91 d_Ru_call_92 (cp_35 hA (j := t + 1) ⟨by omega, hf⟩) rfl ?_
          refine z_iconst d_Ru_call_95 ic_0 ?_
          refine z_aload_n d_Ru_call_96 rfl ?_
          refine z_v (show _ = va_rf (thr A1 (nI o)) from by rw [thr_n (by omega)]; rfl) ?_
          refine z_ast36 (j := t + 1) d_Ru_call_97 hA hf u108 (i := 0) (by decide) (x := nI o) (Or.inr ⟨o, ho, rfl⟩) u107 v32b ?_
          refine z_aload d_Ru_call_98 rfl ?_
          refine z_get fa_Ru_91 d_Ru_call_100 (cp_35 hA (j := t + 1) ⟨by omega, hf⟩) rfl ?_
          refine z_iconst d_Ru_call_103 ic_1 ?_
          refine z_aload_n d_Ru_call_104 rfl ?_
          refine z_get fa_Ru_91 d_Ru_call_105 (cp_35 hA (j := t) ⟨by omega, hf⟩) rfl ?_
          refine z_aload_n d_Ru_call_108 rfl ?_
          refine z_get fa_Ru_152 d_Ru_call_109 (cp_8 hA (j := i) (by omega)) rfl ?_
          refine z_top s13 ?_
          refine z_aaldT (ne X 13 i) d_Ru_call_112 (cp_36 hA (j := t) ⟨by omega, hf⟩) rfl (show ne X 13 i < 6 by omega) (by decide) ?_
          refine z_q (show _ = thr A1 (R 41 (6 * t + ne X 13 i)) from (if_pos (show ne X 13 i < 6 by omega)).trans (by show thr A1 ((cu (cE1 X R i t (nI mn) (nI (1 + ne R 33 o))) 41 (6 * (t + 1) + 0) (nI o)) 41 (6 * t + ne X 13 i)) = _; unfold cE1; rw [cu_i (by omega), mkF_41 (by omega) (by omega)]; rfl)) ?_
          refine z_ast36 (j := t + 1) d_Ru_call_113 hA hf u108 (i := 1) (by decide) (x := R 41 (6 * t + ne X 13 i)) (v41 t (by omega) (ne X 13 i) l13) u107 v32b ?_
          refine z_aload d_Ru_call_114 rfl ?_
          refine z_get fa_Ru_91 d_Ru_call_116 (cp_35 hA (j := t + 1) ⟨by omega, hf⟩) rfl ?_
          refine z_iconst d_Ru_call_119 ic_2 ?_
          refine z_aload_n d_Ru_call_120 rfl ?_
          refine z_get fa_Ru_91 d_Ru_call_121 (cp_35 hA (j := t) ⟨by omega, hf⟩) rfl ?_
          refine z_aload_n d_Ru_call_124 rfl ?_
          refine z_get fa_Ru_155 d_Ru_call_125 (cp_8 hA (j := i) (by omega)) rfl ?_
          refine z_top s14 ?_
          refine z_aaldT (ne X 14 i) d_Ru_call_128 (cp_36 hA (j := t) ⟨by omega, hf⟩) rfl (show ne X 14 i < 6 by omega) (by decide) ?_
          refine z_q (show _ = thr A1 (R 41 (6 * t + ne X 14 i)) from (if_pos (show ne X 14 i < 6 by omega)).trans (by show thr A1 ((cu (cu (cE1 X R i t (nI mn) (nI (1 + ne R 33 o))) 41 (6 * (t + 1) + 0) (nI o)) 41 (6 * (t + 1) + 1) (R 41 (6 * t + ne X 13 i))) 41 (6 * t + ne X 14 i)) = _; unfold cE1; rw [cu_i (by omega), cu_i (by omega), mkF_41 (by omega) (by omega)]; rfl)) ?_
          refine z_ast36 (j := t + 1) d_Ru_call_129 hA hf u108 (i := 2) (by decide) (x := R 41 (6 * t + ne X 14 i)) (v41 t (by omega) (ne X 14 i) l14) u107 v32b ?_
          refine z_aload_n d_Ru_call_130 rfl ?_
          refine z_get fa_Ru_25 d_Ru_call_131 (cp_26 hA hf) rfl ?_
          refine z_aload d_Ru_call_134 rfl ?_
          refine z_cVv (c_push l E hA _ _ _ hf (t + 1) u103 (by omega) u108) cb_AD_push ci_AD_push ln_Ru_48 (cp_29 hA hf) rfl rfl (zlq rfl) rfl (zlq rfl) (zlq rfl) d_Ru_call_136 ?_
          have hA := cIj_103 (n := t + 1 + 1) hA
          exact z_vret rfl d_Ru_call_139 (zlq rfl) (zlq rfl) (⟨rfl, Or.inr ⟨A1, rfl, hA, hr1, nI_pos (by omega), by omega, nI_pos' (by omega)⟩⟩)
      · exact z_vret rfl d_Ru_call_47 (zlq rfl) (zlq rfl) (⟨rfl, Or.inl ⟨rfl, Or.inr (Or.inr (Int32.not_le.mp c44))⟩⟩)
    · have c13n := (nI_eq (by omega) (by omega)).mp c13
      exact z_vret rfl d_Ru_call_16 (zlq rfl) (zlq rfl) (⟨rfl, Or.inl ⟨rfl, Or.inr (Or.inl (by omega))⟩⟩)
