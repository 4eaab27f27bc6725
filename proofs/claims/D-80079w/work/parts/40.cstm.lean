/-! the component: statement, clear, met, ran -/
theorem c_getB0 (l : Launch) (E : zE) {A : rl → Nat} {K : Nat → Nat → Nat} (hA : cIj K A) (X S R : zSt) (q1 : K 100 0 ≤ K 1 0) (q2 : K 1 0 ≤ 90) (m : Nat) (hm : m < K 100 0) : zM l E y_AL_get b_AL_get 2 (some (.object "java/lang/Object")) rm_AL_get [.ref (A (4, 0)), .int (nI m)] (cp E A K X S R) (zPr (some (A (6, m))) (cp E A K X S R)) := by
  have e4 := cp_4 (E := E) (X := X) (S := S) (R := R) hA
  have hn : K 1 0 ≠ 0 := by omega
  rw [show car E A K 5 1 0 0 = .ref (A (5, 0)) from if_neg hn] at e4
  have h := c_AL_get l E _ (A (4, 0)) (A (5, 0)) (K 100 0) (K 1 0) _ _ e4 (cp_5 hA hn) q1 (by omega) m hm
  rw [if_pos hm] at h
  exact h
abbrev rm_P_statement : Room := { frames := 7, cells := 3, slots := 200, locals := 178 }
set_option maxHeartbeats 4000000 in
set_option maxRecDepth 100000 in
theorem c_P_statement (l : Launch) (E : zE) {A : rl → Nat} {K : Nat → Nat → Nat} (hA : cIj K A) (Z S : zSt) (hX : tInv Z) (hK : kI K Z) (hle60 : ∀ m, m < K 100 0 → K 110 m ≤ K 101 0) (hby : ∀ j, 0 < j → j < K 108 0 → K 109 0 ≠ 0 → K 2000 j < K 106 0) (m kd p q r s t : Int32) : zM l E y_P_statement b_P_statement 9 ((some .int)) rm_P_statement [.ref (A (0, 0)), .int m, .int kd, .int p, .int q, .int r, .int s, .int t] (cp E A K Z S Z) (fun v h' => v = some (.int (tStm Z m kd p q r s t).1) ∧ ((tStm Z m kd p q r s t).2 = Z ∧ h' = cp E A K Z S Z ∨ ∃ A' cap cap2, h' = cp E A' (kz (knM (knS (knN K (K 101 0)) (K 101 0) cap) m.toNatClampNeg (K 110 m.toNatClampNeg) cap2 (K 101 0))) (tStm Z m kd p q r s t).2 S (tStm Z m kd p q r s t).2 ∧ cIj (kz (knM (knS (knN K (K 101 0)) (K 101 0) cap) m.toNatClampNeg (K 110 m.toNatClampNeg) cap2 (K 101 0))) A' ∧ A' (0, 0) = A (0, 0) ∧ (K 101 0 + 1 ≤ cap ∧ cap ≤ 90 ∧ 10 ≤ cap) ∧ (K 110 m.toNatClampNeg + 1 ≤ cap2 ∧ cap2 ≤ 90 ∧ 10 ≤ cap2) ∧ cn Z 7 < 60 ∧ tIn m (Z 4 0) = true ∧ ∃ k : Nat, k ≤ 9 ∧ kd = nI k ∧ tGood Z k p q r s t = true ∧ (k = 0 → cn Z 16 < 20) ∧ (tStm Z m kd p q r s t).2 = tCh (va_up (if k = 0 then tSt2 Z q (tSt1 Z m k p q r s t) else tSt1 Z m k p q r s t) 7 (fun _ => nI (cn Z 7 + 1))))) := by
  refine zM_w (by decide +kernel) rfl rfl (fun sz => ?_)
  obtain ⟨⟨⟨h0, b0⟩, ⟨h2, b2⟩, ⟨h4, b4⟩, ⟨h7, b7⟩, ⟨h16, b16⟩⟩, h18, h19, hp, hf0, hs, hst⟩ := id hX
  obtain ⟨⟨k100, k101, k105, k106⟩, ⟨k1a, k1b, k1c⟩, ⟨k0a, k0b, k0c⟩, hkm, hkk⟩ := id hK
  refine z_aload_n d_P_statement_0 rfl ?_
  refine z_iload_n d_P_statement_1 rfl ?_
  refine z_cVi (c_P_isMethod l E hA _ _ _ _) cb_P_isMethod ci_P_isMethod ln_P_94 (cp_0 hA) rfl rfl (zlq rfl) rfl (zlq rfl) (zlq rfl) d_P_statement_2 ?_
  refine z_if_ne (tgt := 10) d_P_statement_5 (by decide) (fun c5 => ?_) (fun c5 => ?_)
  · have c5n := bI_n.mp c5
    refine z_iload_n d_P_statement_10 rfl ?_
    refine z_if_lt (tgt := 20) d_P_statement_11 (by decide) (fun c11 => ?_) (fun c11 => ?_)
    · refine z_bipush (v := -2) d_P_statement_20 bp_m2 ?_
      exact z_iret rfl d_P_statement_22 (zlq rfl) (zlq rfl) (by unfold tStm; rw [if_pos c5n, if_pos c11]; exact ⟨rfl, Or.inl ⟨rfl, rfl⟩⟩)
    · refine z_iload_n d_P_statement_14 rfl ?_
      refine z_bipush d_P_statement_15 bp_9 ?_
      refine z_icmp_le (tgt := 23) d_P_statement_17 (by decide) (fun c17 => ?_) (fun c17 => ?_)
      · obtain ⟨κ, hκ, rfl⟩ : ∃ j : Nat, j ≤ 9 ∧ kd = nI j := nI_of2 (M := nI 9) (by decide +kernel) c11 c17
        refine z_aload_n d_P_statement_23 rfl ?_
        refine z_iload_n d_P_statement_24 rfl ?_
        refine z_iload_n d_P_statement_25 rfl ?_
        refine z_iload d_P_statement_26 rfl ?_
        refine z_iload d_P_statement_28 rfl ?_
        refine z_iload d_P_statement_30 rfl ?_
        refine z_iload d_P_statement_32 rfl ?_
        refine z_cVi (c_P_areGood l E hA _ _ _ (κ) (by omega) _ _ _ _ _) cb_P_areGood ci_P_areGood ln_P_97 (cp_0 hA) rfl rfl (zlq rfl) rfl (zlq rfl) (zlq rfl) d_P_statement_34 ?_
        refine z_if_ne (tgt := 42) d_P_statement_37 (by decide) (fun c37 => ?_) (fun c37 => ?_)
        · have c37n := bI_n.mp c37
          refine z_iload_n d_P_statement_42 rfl ?_
          refine z_bipush d_P_statement_43 bp_7 ?_
          refine z_icmp_ne (tgt := 62) d_P_statement_45 (by decide) (fun c45 => ?_) (fun c45 => ?_)
          · have c45n := (not_congr (nI_eq (by omega) (by omega))).mp c45
            refine z_aload_n d_P_statement_62 rfl ?_
            refine z_get fa_P_25 d_P_statement_63 (cp_0 hA) rfl ?_
            refine z_cFi (c_sizeS l E hA _ _ _) cb_AL_size cf_size k_361 (cp_2 hA) rfl rfl (zlq rfl) rfl (zlq rfl) (zlq rfl) d_P_statement_66 ?_
            refine z_bipush d_P_statement_71 bp_60 ?_
            refine z_icmp_eq (tgt := 89) d_P_statement_73 (by decide) (fun c73 => ?_) (fun c73 => ?_)
            · have c73n := (nI_eq (by omega) (by omega)).mp c73
              refine z_bipush (v := -4) d_P_statement_89 bp_m4 ?_
              exact z_iret rfl d_P_statement_91 (zlq rfl) (zlq rfl) (by unfold tStm; rw [nI_clamp (show κ < 2 ^ 31 by omega)]; rw [if_pos c5n, if_neg c11, if_pos c17, if_pos c37n, if_neg c45]; unfold tSt3; rw [if_pos (by rw [← k101]; exact c73)]; exact ⟨rfl, Or.inl ⟨rfl, rfl⟩⟩)
            · have c73n := (not_congr (nI_eq (by omega) (by omega))).mp c73
              refine z_iload_n d_P_statement_76 rfl ?_
              refine z_if_ne (tgt := 92) d_P_statement_77 (by decide) (fun c77 => ?_) (fun c77 => ?_)
              · have c77n := (not_congr (nI_z (by omega))).mp c77
                obtain ⟨mj, hmj, rfl⟩ := tIn_nat c5n h4 (by omega)
                refine z_new nw_P_105 d_P_statement_92 (zlq rfl) (zlq rfl) (fun w hw => ?_)
                refine z_dup d_P_statement_95 rfl ?_
                refine z_iload_n d_P_statement_96 rfl ?_
                refine z_iload_n d_P_statement_97 rfl ?_
                refine z_iload_n d_P_statement_98 rfl ?_
                refine z_iload d_P_statement_99 rfl ?_
                refine z_iload d_P_statement_101 rfl ?_
                refine z_iload d_P_statement_103 rfl ?_
                refine z_iload d_P_statement_105 rfl ?_
                refine z_cIv (c_St_init l E _ _ _ _ _ _ _ _ _ zpu_s) cb_St_init ii_St_init ln_P_107 rfl rfl (zlq rfl) rfl (zlq rfl) (zlq rfl) d_P_statement_107 ?_
                refine z_eqh zpu_pu ?_
                obtain ⟨A1, hA1, rfl, hr1, hle⟩ := cp_newS hA (nI mj) p q r s t κ (K 101 0) (by omega) (Nat.le_refl _) k101 (fun m k hm hk => by have := hkk m k (by omega) hk; omega) hby w hw
                have e0 : A1 (0, 0) = A (0, 0) := hr1 (0, 0) (fun z => by injection z with z1; exact absurd z1 (by decide))
                rw [← hr1 (0, 0) (fun z => by injection z with z1; exact absurd z1 (by decide))]
                refine z_le hle ?_
                have hA := hA1
                have u106 : K 101 0 < knN K (K 101 0) 106 0 := by show K 101 0 < K 101 0 + 1; omega
                refine z_astore d_P_statement_110 (zlt rfl) ?_
                refine z_iload_n d_P_statement_112 rfl ?_
                refine z_if_ne (tgt := 143) d_P_statement_113 (by decide) (fun c113 => ?_) (fun c113 => absurd c113 (c77))
                have c113n := (not_congr (nI_z (by omega))).mp c113
                refine z_aload_n d_P_statement_143 rfl ?_
                refine z_get fa_P_25 d_P_statement_144 (cp_0 hA) rfl ?_
                refine z_aload d_P_statement_147 rfl ?_
                refine z_callF (c_addS l E hA _ _ _ (K 101 0) rfl (show K 101 0 ≤ K 0 0 from k0a) (show K 0 0 ≤ 90 from k0b) (by omega) k0c u106) cb_AL_add0 cf_add k_337 (cp_2 hA) rfl rfl (zlq rfl) rfl (zlq rfl) (zlq rfl) d_P_statement_149 (fun v h' hv => ?_)
                obtain ⟨rfl, A2, cap, hA2, hr2, d1, d2, d3, rfl⟩ := hv
                replace e0 := (hr2 (0, 0) (fun z => by injection z with z1; exact absurd z1 (by decide))).trans e0
                rw [← hr2 (0, 0) (fun z => by injection z with z1; exact absurd z1 (by decide)), ← hr2 (8, K 101 0) (fun z => by injection z with z1; exact absurd z1 (by decide))]
                have hA := hA2
                refine z_pop d_P_statement_154 rfl ?_
                refine z_aload_n d_P_statement_155 rfl ?_
                refine z_get fa_P_29 d_P_statement_156 (cp_0 hA) rfl ?_
                refine z_iload_n d_P_statement_159 rfl ?_
                refine z_cFr (c_getB0 l E hA _ _ _ (show K 100 0 ≤ K 1 0 from k1a) (show K 1 0 ≤ 90 from k1b) mj (show mj < K 100 0 by omega)) cb_AL_get cf_get k_420 (cp_4 hA) rfl rfl (zlq rfl) rfl (zlq rfl) (zlq rfl) d_P_statement_160 ?_
                refine z_rf ?_
                have u105 : mj < knS (knN K (K 101 0)) (K 101 0) cap 105 0 := by show mj < K 105 0; omega
                refine z_cast (r := (R_AL, F_AL, 3)) rfl k_438 k_154 (cp_6 hA u105) d_P_statement_165 ?_
                refine z_aload d_P_statement_168 rfl ?_
                obtain ⟨m1, m2, m3⟩ := hkm mj (by omega)
                have m4 := hle60 mj (by omega)
                refine z_callF (c_addM l E hA _ _ _ mj u105 (fun j hj => by have := hkm j (by have h0 : j < K 105 0 := hj; omega); show K 110 j ≤ 90; omega) (fun i hi => by show K 1000 (100 * mj + i) < K 101 0 + 1; have h0 : i < K 110 mj := hi; have := hkk mj i (by omega) h0; omega) (K 101 0) (K 110 mj) rfl (show K 110 mj ≤ K 2 mj from m1) (show K 2 mj ≤ 90 from m2) (by omega) m3 (show K 101 0 < K 101 0 + 1 by omega)) cb_AL_add0 cf_add k_337 (cp_6 hA u105) rfl rfl (zlq rfl) rfl (zlq rfl) (zlq rfl) d_P_statement_170 (fun v h' hv => ?_)
                obtain ⟨rfl, A3, cap2, hA3, hr3, d4, d5, d6, rfl⟩ := hv
                replace e0 := (hr3 (0, 0) (fun z => by injection z with z1; exact absurd z1 (by decide))).trans e0
                rw [← hr3 (0, 0) (fun z => by injection z with z1; exact absurd z1 (by decide))]
                have hA := hA3
                refine z_fl 8 ?_
                refine z_pop d_P_statement_175 rfl ?_
                refine z_aload_n d_P_statement_176 rfl ?_
                refine z_cVv (c_P_change l E hA _ _ _ (tStm Z (nI mj) (nI κ) p q r s t).2) cb_P_change ci_P_change ln_P_76 (cp_0 hA) rfl rfl (zlq rfl) rfl (zlq rfl) (zlq rfl) d_P_statement_177 ?_
                have hA := cIj_mono hA (fun _ r => cdm_kz r)
                refine z_aload_n d_P_statement_180 rfl ?_
                refine z_get fa_P_25 d_P_statement_181 (cp_0 hA) rfl ?_
                refine z_cFi (c_sizeS l E hA _ _ _) cb_AL_size cf_size k_361 (cp_2 hA) rfl rfl (zlq rfl) rfl (zlq rfl) (zlq rfl) d_P_statement_184 ?_
                refine z_top (show _ = nI (K 101 0 + 1) from rfl) ?_
                refine z_iconst d_P_statement_189 ic_1 ?_
                refine z_isub d_P_statement_190 ?_
                refine z_top ((pk_sub (a := K 101 0 + 1) (b := 1) (by omega)).trans (by rw [Nat.add_sub_cancel])) ?_
                exact z_iret rfl d_P_statement_191 (zlq rfl) (zlq rfl) (by unfold tStm; rw [nI_clamp (show κ < 2 ^ 31 by omega)]; rw [if_pos c5n, if_neg c11, if_pos c17, if_pos c37n, if_neg c45]; unfold tSt3; rw [if_neg (by rw [← k101]; exact c73), if_neg c77, if_neg c77]; exact ⟨by rw [k101], Or.inr ⟨A3, cap, cap2, by rw [nI_clamp (show mj < 2 ^ 31 by omega)]; exact cp_eqX (r20 (by simp [va_up, tCh, tFg, tSt2]) (by simp [va_up, tCh, tFg, tSt2]) (by simp [va_up, tCh, tFg, tSt2]) (by simp [va_up, tCh, tFg, tSt2]) (by simp [va_up, tCh, tFg, tSt2]) (by simp [va_up, tCh, tFg, tSt2]) (by simp [va_up, tCh, tFg, tSt2]) (by simp [va_up, tCh, tFg, tSt2]) (by simp [va_up, tCh, tFg, tSt2]) (by simp [va_up, tCh, tFg, tSt2]) (by simp [va_up, tCh, tFg, tSt2]) (by simp [va_up, tCh, tFg, tSt2]) (by simp [va_up, tCh, tFg, tSt2]) (by simp [va_up, tCh, tFg, tSt2]) (by simp [va_up, tCh, tFg, tSt2]) (by simp [va_up, tCh, tFg, tSt2]) (by simp [va_up, tCh, tFg, tSt2]) (by simp [va_up, tCh, tFg, tSt2]) (by simp [va_up, tCh, tFg, tSt2])) (fun _ _ => rfl), by rw [nI_clamp (show mj < 2 ^ 31 by omega)]; exact hA, (by first | exact e0 | rfl), ⟨d1, d2, d3⟩, by rw [nI_clamp (show mj < 2 ^ 31 by omega)]; exact ⟨d4, d5, d6⟩, by omega, c5n, κ, hκ, rfl, c37n, fun z => absurd (by rw [z, nI_0]) c77, by rw [if_neg (fun z => c77 (by rw [z, nI_0]))]⟩⟩)
              · have c77n := (nI_z (by omega)).mp c77
                refine z_aload_n d_P_statement_80 rfl ?_
                refine z_get fa_P_52 d_P_statement_81 (cp_0 hA) rfl ?_
                refine z_top h16 ?_
                refine z_bipush d_P_statement_84 bp_20 ?_
                refine z_icmp_ne (tgt := 92) d_P_statement_86 (by decide) (fun c86 => ?_) (fun c86 => ?_)
                · have c86n := (not_congr (nI_eq (by omega) (by omega))).mp c86
                  obtain ⟨mj, hmj, rfl⟩ := tIn_nat c5n h4 (by omega)
                  refine z_new nw_P_105 d_P_statement_92 (zlq rfl) (zlq rfl) (fun w hw => ?_)
                  refine z_dup d_P_statement_95 rfl ?_
                  refine z_iload_n d_P_statement_96 rfl ?_
                  refine z_iload_n d_P_statement_97 rfl ?_
                  refine z_iload_n d_P_statement_98 rfl ?_
                  refine z_iload d_P_statement_99 rfl ?_
                  refine z_iload d_P_statement_101 rfl ?_
                  refine z_iload d_P_statement_103 rfl ?_
                  refine z_iload d_P_statement_105 rfl ?_
                  refine z_cIv (c_St_init l E _ _ _ _ _ _ _ _ _ zpu_s) cb_St_init ii_St_init ln_P_107 rfl rfl (zlq rfl) rfl (zlq rfl) (zlq rfl) d_P_statement_107 ?_
                  refine z_eqh zpu_pu ?_
                  obtain ⟨A1, hA1, rfl, hr1, hle⟩ := cp_newS hA (nI mj) p q r s t κ (K 101 0) (by omega) (Nat.le_refl _) k101 (fun m k hm hk => by have := hkk m k (by omega) hk; omega) hby w hw
                  have e0 : A1 (0, 0) = A (0, 0) := hr1 (0, 0) (fun z => by injection z with z1; exact absurd z1 (by decide))
                  rw [← hr1 (0, 0) (fun z => by injection z with z1; exact absurd z1 (by decide))]
                  refine z_le hle ?_
                  have hA := hA1
                  have u106 : K 101 0 < knN K (K 101 0) 106 0 := by show K 101 0 < K 101 0 + 1; omega
                  refine z_astore d_P_statement_110 (zlt rfl) ?_
                  refine z_iload_n d_P_statement_112 rfl ?_
                  refine z_if_ne (tgt := 143) d_P_statement_113 (by decide) (fun c113 => absurd (c77) c113) (fun c113 => ?_)
                  have c113n := (nI_z (by omega)).mp c113
                  refine z_aload_n d_P_statement_116 rfl ?_
                  refine z_get fa_P_32 d_P_statement_117 (cp_0 hA) rfl ?_
                  refine z_aload_n d_P_statement_120 rfl ?_
                  refine z_get fa_P_52 d_P_statement_121 (cp_0 hA) rfl ?_
                  refine z_top ((congrFun (tSt1_o (X := Z) (m := nI mj) (k := κ) (p := p) (q := q) (r := r) (s := s) (t := t) (by decide)) 0).trans h16) ?_
                  refine z_iload d_P_statement_124 rfl ?_
                  refine z_iast (cn Z 16) d_P_statement_126 (cp_1_4 hA) rfl (show cn Z 16 < 20 from by omega) (by decide) ?_
                  refine z_eqh (cp_p1_4 hA) ?_
                  refine z_aload d_P_statement_127 rfl ?_
                  refine z_aload_n d_P_statement_129 rfl ?_
                  refine z_dup d_P_statement_130 rfl ?_
                  refine z_get fa_P_52 d_P_statement_131 (cp_0 hA) rfl ?_
                  refine z_top ((congrFun (va_up_ne _ _ (by decide)) 0).trans ((congrFun (tSt1_o (X := Z) (m := nI mj) (k := κ) (p := p) (q := q) (r := r) (s := s) (t := t) (by decide)) 0).trans h16)) ?_
                  refine z_dup_x1 d_P_statement_134 rfl rfl ?_
                  refine z_iconst d_P_statement_135 ic_1 ?_
                  refine z_iadd d_P_statement_136 ?_
                  refine z_top (nI_add (cn Z 16) (1)) ?_
                  refine z_put fp_P_52 d_P_statement_137 (cp_0 hA) (vp_nar_int _) rfl (zlt rfl) ?_
                  refine z_eqh (cp_p0_10 hA) ?_
                  refine z_put fp_P_110 d_P_statement_140 (cp_8 hA (j := K 101 0) (by omega)) (vp_nar_int _) rfl (zlt rfl) ?_
                  refine z_eqh (cp_p8_7 hA (by omega)) ?_
                  refine z_aload_n d_P_statement_143 rfl ?_
                  refine z_get fa_P_25 d_P_statement_144 (cp_0 hA) rfl ?_
                  refine z_aload d_P_statement_147 rfl ?_
                  refine z_callF (c_addS l E hA _ _ _ (K 101 0) rfl (show K 101 0 ≤ K 0 0 from k0a) (show K 0 0 ≤ 90 from k0b) (by omega) k0c u106) cb_AL_add0 cf_add k_337 (cp_2 hA) rfl rfl (zlq rfl) rfl (zlq rfl) (zlq rfl) d_P_statement_149 (fun v h' hv => ?_)
                  obtain ⟨rfl, A2, cap, hA2, hr2, d1, d2, d3, rfl⟩ := hv
                  replace e0 := (hr2 (0, 0) (fun z => by injection z with z1; exact absurd z1 (by decide))).trans e0
                  rw [← hr2 (0, 0) (fun z => by injection z with z1; exact absurd z1 (by decide)), ← hr2 (8, K 101 0) (fun z => by injection z with z1; exact absurd z1 (by decide))]
                  have hA := hA2
                  refine z_pop d_P_statement_154 rfl ?_
                  refine z_aload_n d_P_statement_155 rfl ?_
                  refine z_get fa_P_29 d_P_statement_156 (cp_0 hA) rfl ?_
                  refine z_iload_n d_P_statement_159 rfl ?_
                  refine z_cFr (c_getB0 l E hA _ _ _ (show K 100 0 ≤ K 1 0 from k1a) (show K 1 0 ≤ 90 from k1b) mj (show mj < K 100 0 by omega)) cb_AL_get cf_get k_420 (cp_4 hA) rfl rfl (zlq rfl) rfl (zlq rfl) (zlq rfl) d_P_statement_160 ?_
                  refine z_rf ?_
                  have u105 : mj < knS (knN K (K 101 0)) (K 101 0) cap 105 0 := by show mj < K 105 0; omega
                  refine z_cast (r := (R_AL, F_AL, 3)) rfl k_438 k_154 (cp_6 hA u105) d_P_statement_165 ?_
                  refine z_aload d_P_statement_168 rfl ?_
                  obtain ⟨m1, m2, m3⟩ := hkm mj (by omega)
                  have m4 := hle60 mj (by omega)
                  refine z_callF (c_addM l E hA _ _ _ mj u105 (fun j hj => by have := hkm j (by have h0 : j < K 105 0 := hj; omega); show K 110 j ≤ 90; omega) (fun i hi => by show K 1000 (100 * mj + i) < K 101 0 + 1; have h0 : i < K 110 mj := hi; have := hkk mj i (by omega) h0; omega) (K 101 0) (K 110 mj) rfl (show K 110 mj ≤ K 2 mj from m1) (show K 2 mj ≤ 90 from m2) (by omega) m3 (show K 101 0 < K 101 0 + 1 by omega)) cb_AL_add0 cf_add k_337 (cp_6 hA u105) rfl rfl (zlq rfl) rfl (zlq rfl) (zlq rfl) d_P_statement_170 (fun v h' hv => ?_)
                  obtain ⟨rfl, A3, cap2, hA3, hr3, d4, d5, d6, rfl⟩ := hv
                  replace e0 := (hr3 (0, 0) (fun z => by injection z with z1; exact absurd z1 (by decide))).trans e0
                  rw [← hr3 (0, 0) (fun z => by injection z with z1; exact absurd z1 (by decide))]
                  have hA := hA3
                  refine z_fl 8 ?_
                  refine z_pop d_P_statement_175 rfl ?_
                  refine z_aload_n d_P_statement_176 rfl ?_
                  refine z_cVv (c_P_change l E hA _ _ _ (tStm Z (nI mj) (nI κ) p q r s t).2) cb_P_change ci_P_change ln_P_76 (cp_0 hA) rfl rfl (zlq rfl) rfl (zlq rfl) (zlq rfl) d_P_statement_177 ?_
                  have hA := cIj_mono hA (fun _ r => cdm_kz r)
                  refine z_aload_n d_P_statement_180 rfl ?_
                  refine z_get fa_P_25 d_P_statement_181 (cp_0 hA) rfl ?_
                  refine z_cFi (c_sizeS l E hA _ _ _) cb_AL_size cf_size k_361 (cp_2 hA) rfl rfl (zlq rfl) rfl (zlq rfl) (zlq rfl) d_P_statement_184 ?_
                  refine z_top (show _ = nI (K 101 0 + 1) from rfl) ?_
                  refine z_iconst d_P_statement_189 ic_1 ?_
                  refine z_isub d_P_statement_190 ?_
                  refine z_top ((pk_sub (a := K 101 0 + 1) (b := 1) (by omega)).trans (by rw [Nat.add_sub_cancel])) ?_
                  exact z_iret rfl d_P_statement_191 (zlq rfl) (zlq rfl) (by unfold tStm; rw [nI_clamp (show κ < 2 ^ 31 by omega)]; rw [if_pos c5n, if_neg c11, if_pos c17, if_pos c37n, if_neg c45]; unfold tSt3; rw [if_neg (by rw [← k101]; exact c73), if_pos c77, if_neg c86, if_pos c77]; exact ⟨by rw [k101], Or.inr ⟨A3, cap, cap2, by rw [nI_clamp (show mj < 2 ^ 31 by omega)]; exact cp_eqX (r20 (by simp [va_up, tCh, tFg, tSt2]) (by simp [va_up, tCh, tFg, tSt2]) (by simp [va_up, tCh, tFg, tSt2]) (by simp [va_up, tCh, tFg, tSt2]) (by simp [va_up, tCh, tFg, tSt2]) (by simp [va_up, tCh, tFg, tSt2]) (by simp [va_up, tCh, tFg, tSt2]) (by simp [va_up, tCh, tFg, tSt2]) (by simp [va_up, tCh, tFg, tSt2]) (by simp [va_up, tCh, tFg, tSt2]) (by simp [va_up, tCh, tFg, tSt2]) (by simp [va_up, tCh, tFg, tSt2]) (by simp [va_up, tCh, tFg, tSt2]) (by simp [va_up, tCh, tFg, tSt2]) (by simp [va_up, tCh, tFg, tSt2, k101]) (by simp [va_up, tCh, tFg, tSt2]) (by simp [va_up, tCh, tFg, tSt2]) (by simp [va_up, tCh, tFg, tSt2]) (by simp [va_up, tCh, tFg, tSt2])) (fun _ _ => rfl), by rw [nI_clamp (show mj < 2 ^ 31 by omega)]; exact hA, (by first | exact e0 | rfl), ⟨d1, d2, d3⟩, by rw [nI_clamp (show mj < 2 ^ 31 by omega)]; exact ⟨d4, d5, d6⟩, by omega, c5n, κ, hκ, rfl, c37n, fun _ => by omega, by rw [if_pos ((nI_z (by omega)).mp c77)]⟩⟩)
                · have c86n := (nI_eq (by omega) (by omega)).mp c86
                  refine z_bipush (v := -4) d_P_statement_89 bp_m4 ?_
                  exact z_iret rfl d_P_statement_91 (zlq rfl) (zlq rfl) (by unfold tStm; rw [nI_clamp (show κ < 2 ^ 31 by omega)]; rw [if_pos c5n, if_neg c11, if_pos c17, if_pos c37n, if_neg c45]; unfold tSt3; rw [if_neg (by rw [← k101]; exact c73), if_pos c77, if_pos c86]; exact ⟨rfl, Or.inl ⟨rfl, rfl⟩⟩)
          · have c45n := (nI_eq (by omega) (by omega)).mp c45
            refine z_iload d_P_statement_48 rfl ?_
            refine z_if_lt (tgt := 59) d_P_statement_50 (by decide) (fun c50 => ?_) (fun c50 => ?_)
            · refine z_bipush (v := -2) d_P_statement_59 bp_m2 ?_
              exact z_iret rfl d_P_statement_61 (zlq rfl) (zlq rfl) (by unfold tStm; rw [nI_clamp (show κ < 2 ^ 31 by omega)]; rw [if_pos c5n, if_neg c11, if_pos c17, if_pos c37n, if_pos c45, if_pos c50]; exact ⟨rfl, Or.inl ⟨rfl, rfl⟩⟩)
            · refine z_iload d_P_statement_53 rfl ?_
              refine z_iconst d_P_statement_55 ic_4 ?_
              refine z_icmp_lt (tgt := 62) d_P_statement_56 (by decide) (fun c56 => ?_) (fun c56 => ?_)
              · refine z_aload_n d_P_statement_62 rfl ?_
                refine z_get fa_P_25 d_P_statement_63 (cp_0 hA) rfl ?_
                refine z_cFi (c_sizeS l E hA _ _ _) cb_AL_size cf_size k_361 (cp_2 hA) rfl rfl (zlq rfl) rfl (zlq rfl) (zlq rfl) d_P_statement_66 ?_
                refine z_bipush d_P_statement_71 bp_60 ?_
                refine z_icmp_eq (tgt := 89) d_P_statement_73 (by decide) (fun c73 => ?_) (fun c73 => ?_)
                · have c73n := (nI_eq (by omega) (by omega)).mp c73
                  refine z_bipush (v := -4) d_P_statement_89 bp_m4 ?_
                  exact z_iret rfl d_P_statement_91 (zlq rfl) (zlq rfl) (by unfold tStm; rw [nI_clamp (show κ < 2 ^ 31 by omega)]; rw [if_pos c5n, if_neg c11, if_pos c17, if_pos c37n, if_pos c45, if_neg c50, if_pos (lt4.mp c56)]; unfold tSt3; rw [if_pos (by rw [← k101]; exact c73)]; exact ⟨rfl, Or.inl ⟨rfl, rfl⟩⟩)
                · have c73n := (not_congr (nI_eq (by omega) (by omega))).mp c73
                  refine z_iload_n d_P_statement_76 rfl ?_
                  refine z_if_ne (tgt := 92) d_P_statement_77 (by decide) (fun c77 => ?_) (fun c77 => ?_)
                  · have c77n := (not_congr (nI_z (by omega))).mp c77
                    obtain ⟨mj, hmj, rfl⟩ := tIn_nat c5n h4 (by omega)
                    refine z_new nw_P_105 d_P_statement_92 (zlq rfl) (zlq rfl) (fun w hw => ?_)
                    refine z_dup d_P_statement_95 rfl ?_
                    refine z_iload_n d_P_statement_96 rfl ?_
                    refine z_iload_n d_P_statement_97 rfl ?_
                    refine z_iload_n d_P_statement_98 rfl ?_
                    refine z_iload d_P_statement_99 rfl ?_
                    refine z_iload d_P_statement_101 rfl ?_
                    refine z_iload d_P_statement_103 rfl ?_
                    refine z_iload d_P_statement_105 rfl ?_
                    refine z_cIv (c_St_init l E _ _ _ _ _ _ _ _ _ zpu_s) cb_St_init ii_St_init ln_P_107 rfl rfl (zlq rfl) rfl (zlq rfl) (zlq rfl) d_P_statement_107 ?_
                    refine z_eqh zpu_pu ?_
                    obtain ⟨A1, hA1, rfl, hr1, hle⟩ := cp_newS hA (nI mj) p q r s t κ (K 101 0) (by omega) (Nat.le_refl _) k101 (fun m k hm hk => by have := hkk m k (by omega) hk; omega) hby w hw
                    have e0 : A1 (0, 0) = A (0, 0) := hr1 (0, 0) (fun z => by injection z with z1; exact absurd z1 (by decide))
                    rw [← hr1 (0, 0) (fun z => by injection z with z1; exact absurd z1 (by decide))]
                    refine z_le hle ?_
                    have hA := hA1
                    have u106 : K 101 0 < knN K (K 101 0) 106 0 := by show K 101 0 < K 101 0 + 1; omega
                    refine z_astore d_P_statement_110 (zlt rfl) ?_
                    refine z_iload_n d_P_statement_112 rfl ?_
                    refine z_if_ne (tgt := 143) d_P_statement_113 (by decide) (fun c113 => ?_) (fun c113 => absurd c113 (c77))
                    have c113n := (not_congr (nI_z (by omega))).mp c113
                    refine z_aload_n d_P_statement_143 rfl ?_
                    refine z_get fa_P_25 d_P_statement_144 (cp_0 hA) rfl ?_
                    refine z_aload d_P_statement_147 rfl ?_
                    refine z_callF (c_addS l E hA _ _ _ (K 101 0) rfl (show K 101 0 ≤ K 0 0 from k0a) (show K 0 0 ≤ 90 from k0b) (by omega) k0c u106) cb_AL_add0 cf_add k_337 (cp_2 hA) rfl rfl (zlq rfl) rfl (zlq rfl) (zlq rfl) d_P_statement_149 (fun v h' hv => ?_)
                    obtain ⟨rfl, A2, cap, hA2, hr2, d1, d2, d3, rfl⟩ := hv
                    replace e0 := (hr2 (0, 0) (fun z => by injection z with z1; exact absurd z1 (by decide))).trans e0
                    rw [← hr2 (0, 0) (fun z => by injection z with z1; exact absurd z1 (by decide)), ← hr2 (8, K 101 0) (fun z => by injection z with z1; exact absurd z1 (by decide))]
                    have hA := hA2
                    refine z_pop d_P_statement_154 rfl ?_
                    refine z_aload_n d_P_statement_155 rfl ?_
                    refine z_get fa_P_29 d_P_statement_156 (cp_0 hA) rfl ?_
                    refine z_iload_n d_P_statement_159 rfl ?_
                    refine z_cFr (c_getB0 l E hA _ _ _ (show K 100 0 ≤ K 1 0 from k1a) (show K 1 0 ≤ 90 from k1b) mj (show mj < K 100 0 by omega)) cb_AL_get cf_get k_420 (cp_4 hA) rfl rfl (zlq rfl) rfl (zlq rfl) (zlq rfl) d_P_statement_160 ?_
                    refine z_rf ?_
                    have u105 : mj < knS (knN K (K 101 0)) (K 101 0) cap 105 0 := by show mj < K 105 0; omega
                    refine z_cast (r := (R_AL, F_AL, 3)) rfl k_438 k_154 (cp_6 hA u105) d_P_statement_165 ?_
                    refine z_aload d_P_statement_168 rfl ?_
                    obtain ⟨m1, m2, m3⟩ := hkm mj (by omega)
                    have m4 := hle60 mj (by omega)
                    refine z_callF (c_addM l E hA _ _ _ mj u105 (fun j hj => by have := hkm j (by have h0 : j < K 105 0 := hj; omega); show K 110 j ≤ 90; omega) (fun i hi => by show K 1000 (100 * mj + i) < K 101 0 + 1; have h0 : i < K 110 mj := hi; have := hkk mj i (by omega) h0; omega) (K 101 0) (K 110 mj) rfl (show K 110 mj ≤ K 2 mj from m1) (show K 2 mj ≤ 90 from m2) (by omega) m3 (show K 101 0 < K 101 0 + 1 by omega)) cb_AL_add0 cf_add k_337 (cp_6 hA u105) rfl rfl (zlq rfl) rfl (zlq rfl) (zlq rfl) d_P_statement_170 (fun v h' hv => ?_)
                    obtain ⟨rfl, A3, cap2, hA3, hr3, d4, d5, d6, rfl⟩ := hv
                    replace e0 := (hr3 (0, 0) (fun z => by injection z with z1; exact absurd z1 (by decide))).trans e0
                    rw [← hr3 (0, 0) (fun z => by injection z with z1; exact absurd z1 (by decide))]
                    have hA := hA3
                    refine z_fl 8 ?_
                    refine z_pop d_P_statement_175 rfl ?_
                    refine z_aload_n d_P_statement_176 rfl ?_
                    refine z_cVv (c_P_change l E hA _ _ _ (tStm Z (nI mj) (nI κ) p q r s t).2) cb_P_change ci_P_change ln_P_76 (cp_0 hA) rfl rfl (zlq rfl) rfl (zlq rfl) (zlq rfl) d_P_statement_177 ?_
                    have hA := cIj_mono hA (fun _ r => cdm_kz r)
                    refine z_aload_n d_P_statement_180 rfl ?_
                    refine z_get fa_P_25 d_P_statement_181 (cp_0 hA) rfl ?_
                    refine z_cFi (c_sizeS l E hA _ _ _) cb_AL_size cf_size k_361 (cp_2 hA) rfl rfl (zlq rfl) rfl (zlq rfl) (zlq rfl) d_P_statement_184 ?_
                    refine z_top (show _ = nI (K 101 0 + 1) from rfl) ?_
                    refine z_iconst d_P_statement_189 ic_1 ?_
                    refine z_isub d_P_statement_190 ?_
                    refine z_top ((pk_sub (a := K 101 0 + 1) (b := 1) (by omega)).trans (by rw [Nat.add_sub_cancel])) ?_
                    exact z_iret rfl d_P_statement_191 (zlq rfl) (zlq rfl) (by unfold tStm; rw [nI_clamp (show κ < 2 ^ 31 by omega)]; rw [if_pos c5n, if_neg c11, if_pos c17, if_pos c37n, if_pos c45, if_neg c50, if_pos (lt4.mp c56)]; unfold tSt3; rw [if_neg (by rw [← k101]; exact c73), if_neg c77, if_neg c77]; exact ⟨by rw [k101], Or.inr ⟨A3, cap, cap2, by rw [nI_clamp (show mj < 2 ^ 31 by omega)]; exact cp_eqX (r20 (by simp [va_up, tCh, tFg, tSt2]) (by simp [va_up, tCh, tFg, tSt2]) (by simp [va_up, tCh, tFg, tSt2]) (by simp [va_up, tCh, tFg, tSt2]) (by simp [va_up, tCh, tFg, tSt2]) (by simp [va_up, tCh, tFg, tSt2]) (by simp [va_up, tCh, tFg, tSt2]) (by simp [va_up, tCh, tFg, tSt2]) (by simp [va_up, tCh, tFg, tSt2]) (by simp [va_up, tCh, tFg, tSt2]) (by simp [va_up, tCh, tFg, tSt2]) (by simp [va_up, tCh, tFg, tSt2]) (by simp [va_up, tCh, tFg, tSt2]) (by simp [va_up, tCh, tFg, tSt2]) (by simp [va_up, tCh, tFg, tSt2]) (by simp [va_up, tCh, tFg, tSt2]) (by simp [va_up, tCh, tFg, tSt2]) (by simp [va_up, tCh, tFg, tSt2]) (by simp [va_up, tCh, tFg, tSt2])) (fun _ _ => rfl), by rw [nI_clamp (show mj < 2 ^ 31 by omega)]; exact hA, (by first | exact e0 | rfl), ⟨d1, d2, d3⟩, by rw [nI_clamp (show mj < 2 ^ 31 by omega)]; exact ⟨d4, d5, d6⟩, by omega, c5n, κ, hκ, rfl, c37n, fun z => absurd (by rw [z, nI_0]) c77, by rw [if_neg (fun z => c77 (by rw [z, nI_0]))]⟩⟩)
                  · have c77n := (nI_z (by omega)).mp c77
                    refine z_aload_n d_P_statement_80 rfl ?_
                    refine z_get fa_P_52 d_P_statement_81 (cp_0 hA) rfl ?_
                    refine z_top h16 ?_
                    refine z_bipush d_P_statement_84 bp_20 ?_
                    refine z_icmp_ne (tgt := 92) d_P_statement_86 (by decide) (fun c86 => ?_) (fun c86 => ?_)
                    · have c86n := (not_congr (nI_eq (by omega) (by omega))).mp c86
                      obtain ⟨mj, hmj, rfl⟩ := tIn_nat c5n h4 (by omega)
                      refine z_new nw_P_105 d_P_statement_92 (zlq rfl) (zlq rfl) (fun w hw => ?_)
                      refine z_dup d_P_statement_95 rfl ?_
                      refine z_iload_n d_P_statement_96 rfl ?_
                      refine z_iload_n d_P_statement_97 rfl ?_
                      refine z_iload_n d_P_statement_98 rfl ?_
                      refine z_iload d_P_statement_99 rfl ?_
                      refine z_iload d_P_statement_101 rfl ?_
                      refine z_iload d_P_statement_103 rfl ?_
                      refine z_iload d_P_statement_105 rfl ?_
                      refine z_cIv (c_St_init l E _ _ _ _ _ _ _ _ _ zpu_s) cb_St_init ii_St_init ln_P_107 rfl rfl (zlq rfl) rfl (zlq rfl) (zlq rfl) d_P_statement_107 ?_
                      refine z_eqh zpu_pu ?_
                      obtain ⟨A1, hA1, rfl, hr1, hle⟩ := cp_newS hA (nI mj) p q r s t κ (K 101 0) (by omega) (Nat.le_refl _) k101 (fun m k hm hk => by have := hkk m k (by omega) hk; omega) hby w hw
                      have e0 : A1 (0, 0) = A (0, 0) := hr1 (0, 0) (fun z => by injection z with z1; exact absurd z1 (by decide))
                      rw [← hr1 (0, 0) (fun z => by injection z with z1; exact absurd z1 (by decide))]
                      refine z_le hle ?_
                      have hA := hA1
                      have u106 : K 101 0 < knN K (K 101 0) 106 0 := by show K 101 0 < K 101 0 + 1; omega
                      refine z_astore d_P_statement_110 (zlt rfl) ?_
                      refine z_iload_n d_P_statement_112 rfl ?_
                      refine z_if_ne (tgt := 143) d_P_statement_113 (by decide) (fun c113 => absurd (c77) c113) (fun c113 => ?_)
                      have c113n := (nI_z (by omega)).mp c113
                      refine z_aload_n d_P_statement_116 rfl ?_
                      refine z_get fa_P_32 d_P_statement_117 (cp_0 hA) rfl ?_
                      refine z_aload_n d_P_statement_120 rfl ?_
                      refine z_get fa_P_52 d_P_statement_121 (cp_0 hA) rfl ?_
                      refine z_top ((congrFun (tSt1_o (X := Z) (m := nI mj) (k := κ) (p := p) (q := q) (r := r) (s := s) (t := t) (by decide)) 0).trans h16) ?_
                      refine z_iload d_P_statement_124 rfl ?_
                      refine z_iast (cn Z 16) d_P_statement_126 (cp_1_4 hA) rfl (show cn Z 16 < 20 from by omega) (by decide) ?_
                      refine z_eqh (cp_p1_4 hA) ?_
                      refine z_aload d_P_statement_127 rfl ?_
                      refine z_aload_n d_P_statement_129 rfl ?_
                      refine z_dup d_P_statement_130 rfl ?_
                      refine z_get fa_P_52 d_P_statement_131 (cp_0 hA) rfl ?_
                      refine z_top ((congrFun (va_up_ne _ _ (by decide)) 0).trans ((congrFun (tSt1_o (X := Z) (m := nI mj) (k := κ) (p := p) (q := q) (r := r) (s := s) (t := t) (by decide)) 0).trans h16)) ?_
                      refine z_dup_x1 d_P_statement_134 rfl rfl ?_
                      refine z_iconst d_P_statement_135 ic_1 ?_
                      refine z_iadd d_P_statement_136 ?_
                      refine z_top (nI_add (cn Z 16) (1)) ?_
                      refine z_put fp_P_52 d_P_statement_137 (cp_0 hA) (vp_nar_int _) rfl (zlt rfl) ?_
                      refine z_eqh (cp_p0_10 hA) ?_
                      refine z_put fp_P_110 d_P_statement_140 (cp_8 hA (j := K 101 0) (by omega)) (vp_nar_int _) rfl (zlt rfl) ?_
                      refine z_eqh (cp_p8_7 hA (by omega)) ?_
                      refine z_aload_n d_P_statement_143 rfl ?_
                      refine z_get fa_P_25 d_P_statement_144 (cp_0 hA) rfl ?_
                      refine z_aload d_P_statement_147 rfl ?_
                      refine z_callF (c_addS l E hA _ _ _ (K 101 0) rfl (show K 101 0 ≤ K 0 0 from k0a) (show K 0 0 ≤ 90 from k0b) (by omega) k0c u106) cb_AL_add0 cf_add k_337 (cp_2 hA) rfl rfl (zlq rfl) rfl (zlq rfl) (zlq rfl) d_P_statement_149 (fun v h' hv => ?_)
                      obtain ⟨rfl, A2, cap, hA2, hr2, d1, d2, d3, rfl⟩ := hv
                      replace e0 := (hr2 (0, 0) (fun z => by injection z with z1; exact absurd z1 (by decide))).trans e0
                      rw [← hr2 (0, 0) (fun z => by injection z with z1; exact absurd z1 (by decide)), ← hr2 (8, K 101 0) (fun z => by injection z with z1; exact absurd z1 (by decide))]
                      have hA := hA2
                      refine z_pop d_P_statement_154 rfl ?_
                      refine z_aload_n d_P_statement_155 rfl ?_
                      refine z_get fa_P_29 d_P_statement_156 (cp_0 hA) rfl ?_
                      refine z_iload_n d_P_statement_159 rfl ?_
                      refine z_cFr (c_getB0 l E hA _ _ _ (show K 100 0 ≤ K 1 0 from k1a) (show K 1 0 ≤ 90 from k1b) mj (show mj < K 100 0 by omega)) cb_AL_get cf_get k_420 (cp_4 hA) rfl rfl (zlq rfl) rfl (zlq rfl) (zlq rfl) d_P_statement_160 ?_
                      refine z_rf ?_
                      have u105 : mj < knS (knN K (K 101 0)) (K 101 0) cap 105 0 := by show mj < K 105 0; omega
                      refine z_cast (r := (R_AL, F_AL, 3)) rfl k_438 k_154 (cp_6 hA u105) d_P_statement_165 ?_
                      refine z_aload d_P_statement_168 rfl ?_
                      obtain ⟨m1, m2, m3⟩ := hkm mj (by omega)
                      have m4 := hle60 mj (by omega)
                      refine z_callF (c_addM l E hA _ _ _ mj u105 (fun j hj => by have := hkm j (by have h0 : j < K 105 0 := hj; omega); show K 110 j ≤ 90; omega) (fun i hi => by show K 1000 (100 * mj + i) < K 101 0 + 1; have h0 : i < K 110 mj := hi; have := hkk mj i (by omega) h0; omega) (K 101 0) (K 110 mj) rfl (show K 110 mj ≤ K 2 mj from m1) (show K 2 mj ≤ 90 from m2) (by omega) m3 (show K 101 0 < K 101 0 + 1 by omega)) cb_AL_add0 cf_add k_337 (cp_6 hA u105) rfl rfl (zlq rfl) rfl (zlq rfl) (zlq rfl) d_P_statement_170 (fun v h' hv => ?_)
                      obtain ⟨rfl, A3, cap2, hA3, hr3, d4, d5, d6, rfl⟩ := hv
                      replace e0 := (hr3 (0, 0) (fun z => by injection z with z1; exact absurd z1 (by decide))).trans e0
                      rw [← hr3 (0, 0) (fun z => by injection z with z1; exact absurd z1 (by decide))]
                      have hA := hA3
                      refine z_fl 8 ?_
                      refine z_pop d_P_statement_175 rfl ?_
                      refine z_aload_n d_P_statement_176 rfl ?_
                      refine z_cVv (c_P_change l E hA _ _ _ (tStm Z (nI mj) (nI κ) p q r s t).2) cb_P_change ci_P_change ln_P_76 (cp_0 hA) rfl rfl (zlq rfl) rfl (zlq rfl) (zlq rfl) d_P_statement_177 ?_
                      have hA := cIj_mono hA (fun _ r => cdm_kz r)
                      refine z_aload_n d_P_statement_180 rfl ?_
                      refine z_get fa_P_25 d_P_statement_181 (cp_0 hA) rfl ?_
                      refine z_cFi (c_sizeS l E hA _ _ _) cb_AL_size cf_size k_361 (cp_2 hA) rfl rfl (zlq rfl) rfl (zlq rfl) (zlq rfl) d_P_statement_184 ?_
                      refine z_top (show _ = nI (K 101 0 + 1) from rfl) ?_
                      refine z_iconst d_P_statement_189 ic_1 ?_
                      refine z_isub d_P_statement_190 ?_
                      refine z_top ((pk_sub (a := K 101 0 + 1) (b := 1) (by omega)).trans (by rw [Nat.add_sub_cancel])) ?_
                      exact z_iret rfl d_P_statement_191 (zlq rfl) (zlq rfl) (by unfold tStm; rw [nI_clamp (show κ < 2 ^ 31 by omega)]; rw [if_pos c5n, if_neg c11, if_pos c17, if_pos c37n, if_pos c45, if_neg c50, if_pos (lt4.mp c56)]; unfold tSt3; rw [if_neg (by rw [← k101]; exact c73), if_pos c77, if_neg c86, if_pos c77]; exact ⟨by rw [k101], Or.inr ⟨A3, cap, cap2, by rw [nI_clamp (show mj < 2 ^ 31 by omega)]; exact cp_eqX (r20 (by simp [va_up, tCh, tFg, tSt2]) (by simp [va_up, tCh, tFg, tSt2]) (by simp [va_up, tCh, tFg, tSt2]) (by simp [va_up, tCh, tFg, tSt2]) (by simp [va_up, tCh, tFg, tSt2]) (by simp [va_up, tCh, tFg, tSt2]) (by simp [va_up, tCh, tFg, tSt2]) (by simp [va_up, tCh, tFg, tSt2]) (by simp [va_up, tCh, tFg, tSt2]) (by simp [va_up, tCh, tFg, tSt2]) (by simp [va_up, tCh, tFg, tSt2]) (by simp [va_up, tCh, tFg, tSt2]) (by simp [va_up, tCh, tFg, tSt2]) (by simp [va_up, tCh, tFg, tSt2]) (by simp [va_up, tCh, tFg, tSt2, k101]) (by simp [va_up, tCh, tFg, tSt2]) (by simp [va_up, tCh, tFg, tSt2]) (by simp [va_up, tCh, tFg, tSt2]) (by simp [va_up, tCh, tFg, tSt2])) (fun _ _ => rfl), by rw [nI_clamp (show mj < 2 ^ 31 by omega)]; exact hA, (by first | exact e0 | rfl), ⟨d1, d2, d3⟩, by rw [nI_clamp (show mj < 2 ^ 31 by omega)]; exact ⟨d4, d5, d6⟩, by omega, c5n, κ, hκ, rfl, c37n, fun _ => by omega, by rw [if_pos ((nI_z (by omega)).mp c77)]⟩⟩)
                    · have c86n := (nI_eq (by omega) (by omega)).mp c86
                      refine z_bipush (v := -4) d_P_statement_89 bp_m4 ?_
                      exact z_iret rfl d_P_statement_91 (zlq rfl) (zlq rfl) (by unfold tStm; rw [nI_clamp (show κ < 2 ^ 31 by omega)]; rw [if_pos c5n, if_neg c11, if_pos c17, if_pos c37n, if_pos c45, if_neg c50, if_pos (lt4.mp c56)]; unfold tSt3; rw [if_neg (by rw [← k101]; exact c73), if_pos c77, if_pos c86]; exact ⟨rfl, Or.inl ⟨rfl, rfl⟩⟩)
              · refine z_bipush (v := -2) d_P_statement_59 bp_m2 ?_
                exact z_iret rfl d_P_statement_61 (zlq rfl) (zlq rfl) (by unfold tStm; rw [nI_clamp (show κ < 2 ^ 31 by omega)]; rw [if_pos c5n, if_neg c11, if_pos c17, if_pos c37n, if_pos c45, if_neg c50, if_neg (fun z => c56 (lt4.mpr z))]; exact ⟨rfl, Or.inl ⟨rfl, rfl⟩⟩)
        · have c37n := bI_e.mp c37
          refine z_iconst (v := -1) d_P_statement_40 ic_m1 ?_
          exact z_iret rfl d_P_statement_41 (zlq rfl) (zlq rfl) (by unfold tStm; rw [nI_clamp (show κ < 2 ^ 31 by omega)]; rw [if_pos c5n, if_neg c11, if_pos c17, if_neg (zbf c37n)]; exact ⟨rfl, Or.inl ⟨rfl, rfl⟩⟩)
      · refine z_bipush (v := -2) d_P_statement_20 bp_m2 ?_
        exact z_iret rfl d_P_statement_22 (zlq rfl) (zlq rfl) (by unfold tStm; rw [if_pos c5n, if_neg c11, if_neg c17]; exact ⟨rfl, Or.inl ⟨rfl, rfl⟩⟩)
  · have c5n := bI_e.mp c5
    refine z_iconst (v := -1) d_P_statement_8 ic_m1 ?_
    exact z_iret rfl d_P_statement_9 (zlq rfl) (zlq rfl) (by unfold tStm; rw [if_neg (zbf c5n)]; exact ⟨rfl, Or.inl ⟨rfl, rfl⟩⟩)
