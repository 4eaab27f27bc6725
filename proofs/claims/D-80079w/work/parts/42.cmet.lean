/-! the component: met, ran -/
theorem chd_n {n : Nat} (h : n ≤ 16) : chd n = 0 ∧ n = 0 ∨ 0 < chd n ∧ chd n + n = 17 := by unfold chd; split <;> omega
theorem c_sizeP (l : Launch) (E : zE) {A : rl → Nat} {K : Nat → Nat → Nat} (hA : cIj K A) (X S R : zSt) (hf : K 109 0 ≠ 0) (hn : K 103 0 ≤ 16) : zM l E y_AD_size b_AD_size 1 (some .int) rm_AD_size [.ref (A (29, 0))] (cp E A K X S R) (zPi (nI (K 103 0)) (cp E A K X S R)) := c_AD_size l E _ _ _ _ _ (cp_29 hA hf) (cp_30 hA hf) _ (chd_n hn)
theorem c_sizeT (l : Launch) (E : zE) {A : rl → Nat} {K : Nat → Nat → Nat} (hA : cIj K A) (X S R : zSt) (hf : K 109 0 ≠ 0) : zM l E y_AL_size b_AL_size 1 (some .int) rm_AL_size [.ref (A (27, 0))] (cp E A K X S R) (zPi (nI (K 102 0)) (cp E A K X S R)) := c_AL_size l E _ _ _ _ _ (cp_27 hA hf)
def qMet (K : Nat → Nat → Nat) (X R : zSt) (m n : Int32) : Int32 := if tIn m (X 4 0) = true then (if tIn n (nI 6) = true then (if K 104 0 = 0 then nI 0 else R 42 (6 * m.toNatClampNeg + n.toNatClampNeg)) else -1) else -1
def qRan (K : Nat → Nat → Nat) (R : zSt) (x : Int32) : Int32 := if x < 0 then -2 else if x ≤ nI 2 then (if K 104 0 = 0 then nI 0 else if x = 0 then nI (K 102 0) else if x = nI 1 then nI (K 103 0) else R 43 0) else -2
abbrev rm_P_met : Room := { frames := 1, cells := 0, slots := 0, locals := 21 }
set_option maxHeartbeats 4000000 in
set_option maxRecDepth 100000 in
theorem c_P_met (l : Launch) (E : zE) {A : rl → Nat} {K : Nat → Nat → Nat} (hA : cIj K A) (X S R : zSt) (hX : tInv X) (hL : K 104 0 ≠ 0 → K 109 0 ≠ 0) (hn16 : K 103 0 ≤ 16) (m n : Int32) : zM l E y_P_met b_P_met 3 ((some .int)) rm_P_met [.ref (A (0, 0)), .int m, .int n] (cp E A K X S R) (zPi (qMet K X R m n) (cp E A K X S R)) := by
  refine zM_w (by decide +kernel) rfl rfl (fun sz => ?_)
  obtain ⟨⟨⟨h0, b0⟩, ⟨h2, b2⟩, ⟨h4, b4⟩, ⟨h7, b7⟩, ⟨h16, b16⟩⟩, h18, h19, hp, hf0, hs, hst⟩ := id hX
  have e0 := cp_0 (E := E) (X := X) (S := S) (R := R) hA
  by_cases hz : K 104 0 = 0
  · rw [if_pos hz] at e0
    refine z_aload_n d_P_met_0 rfl ?_
    refine z_iload_n d_P_met_1 rfl ?_
    refine z_cVi (c_P_isMethod l E hA _ _ _ _) cb_P_isMethod ci_P_isMethod ln_P_94 e0 rfl rfl (zlq rfl) rfl (zlq rfl) (zlq rfl) d_P_met_2 ?_
    refine z_if_eq (tgt := 15) d_P_met_5 (by decide) (fun c5 => ?_) (fun c5 => ?_)
    · have c5n := bI_e.mp c5
      refine z_iconst (v := -1) d_P_met_15 ic_m1 ?_
      exact z_iret rfl d_P_met_16 (zlq rfl) (zlq rfl) (by unfold qMet; rw [if_neg (zbf c5n)]; exact ⟨rfl, rfl⟩)
    · have c5n := bI_n.mp c5
      refine z_iload_n d_P_met_8 rfl ?_
      refine z_cSi (c_P_isName l E _ _) cb_P_isName cs_P_isName ln_P_85 rfl rfl (zlq rfl) rfl (zlq rfl) (zlq rfl) d_P_met_9 ?_
      refine z_if_ne (tgt := 17) d_P_met_12 (by decide) (fun c12 => ?_) (fun c12 => ?_)
      · have c12n := bI_n.mp c12
        obtain ⟨mj, hmj, rfl⟩ := tIn_nat c5n h4 (by omega)
        obtain ⟨nj, hnj, rfl⟩ := tIn_nat c12n rfl (by omega)
        refine z_aload_n d_P_met_17 rfl ?_
        refine z_get fa_P_59 d_P_met_18 e0 rfl ?_
        refine z_ifnonnullN d_P_met_21 ?_
        refine z_iconst d_P_met_24 ic_0 ?_
        refine z_goto (tgt := 42) d_P_met_25 (by decide) ?_
        exact z_iret rfl d_P_met_42 (zlq rfl) (zlq rfl) (by unfold qMet; rw [if_pos c5n, if_pos c12n, if_pos hz]; exact ⟨rfl, rfl⟩)
      · have c12n := bI_e.mp c12
        refine z_iconst (v := -1) d_P_met_15 ic_m1 ?_
        exact z_iret rfl d_P_met_16 (zlq rfl) (zlq rfl) (by unfold qMet; rw [if_pos c5n, if_neg (zbf c12n)]; exact ⟨rfl, rfl⟩)
  · rw [if_neg hz] at e0
    have hf := hL hz
    refine z_aload_n d_P_met_0 rfl ?_
    refine z_iload_n d_P_met_1 rfl ?_
    refine z_cVi (c_P_isMethod l E hA _ _ _ _) cb_P_isMethod ci_P_isMethod ln_P_94 e0 rfl rfl (zlq rfl) rfl (zlq rfl) (zlq rfl) d_P_met_2 ?_
    refine z_if_eq (tgt := 15) d_P_met_5 (by decide) (fun c5 => ?_) (fun c5 => ?_)
    · have c5n := bI_e.mp c5
      refine z_iconst (v := -1) d_P_met_15 ic_m1 ?_
      exact z_iret rfl d_P_met_16 (zlq rfl) (zlq rfl) (by unfold qMet; rw [if_neg (zbf c5n)]; exact ⟨rfl, rfl⟩)
    · have c5n := bI_n.mp c5
      refine z_iload_n d_P_met_8 rfl ?_
      refine z_cSi (c_P_isName l E _ _) cb_P_isName cs_P_isName ln_P_85 rfl rfl (zlq rfl) rfl (zlq rfl) (zlq rfl) d_P_met_9 ?_
      refine z_if_ne (tgt := 17) d_P_met_12 (by decide) (fun c12 => ?_) (fun c12 => ?_)
      · have c12n := bI_n.mp c12
        obtain ⟨mj, hmj, rfl⟩ := tIn_nat c5n h4 (by omega)
        obtain ⟨nj, hnj, rfl⟩ := tIn_nat c12n rfl (by omega)
        refine z_aload_n d_P_met_17 rfl ?_
        refine z_get fa_P_59 d_P_met_18 e0 rfl ?_
        refine z_ifnonnullR (tgt := 28) d_P_met_21 (by decide) ?_
        refine z_aload_n d_P_met_28 rfl ?_
        refine z_get fa_P_59 d_P_met_29 e0 rfl ?_
        refine z_get fa_P_193 d_P_met_32 (cp_26 hA hf) rfl ?_
        refine z_bipush d_P_met_35 bp_6 ?_
        refine z_iload_n d_P_met_37 rfl ?_
        refine z_imul d_P_met_38 ?_
        refine z_top (pk_mul (6) (mj)) ?_
        refine z_iload_n d_P_met_39 rfl ?_
        refine z_iadd d_P_met_40 ?_
        refine z_top (nI_add (6 * mj) (nj)) ?_
        refine z_iald (6 * mj + nj) d_P_met_41 (cp_32 hA hf) rfl (show 6 * mj + nj < 60 from by omega) (by decide) ?_
        exact z_iret rfl d_P_met_42 (zlq rfl) (zlq rfl) (by unfold qMet; rw [if_pos c5n, if_pos c12n, if_neg hz, nI_clamp (show mj < 2 ^ 31 by omega), nI_clamp (show nj < 2 ^ 31 by omega)]; exact ⟨rfl, rfl⟩)
      · have c12n := bI_e.mp c12
        refine z_iconst (v := -1) d_P_met_15 ic_m1 ?_
        exact z_iret rfl d_P_met_16 (zlq rfl) (zlq rfl) (by unfold qMet; rw [if_pos c5n, if_neg (zbf c12n)]; exact ⟨rfl, rfl⟩)
abbrev rm_P_ran : Room := { frames := 2, cells := 0, slots := 0, locals := 42 }
set_option maxHeartbeats 4000000 in
set_option maxRecDepth 100000 in
theorem c_P_ran (l : Launch) (E : zE) {A : rl → Nat} {K : Nat → Nat → Nat} (hA : cIj K A) (X S R : zSt) (hX : tInv X) (hL : K 104 0 ≠ 0 → K 109 0 ≠ 0) (hn16 : K 103 0 ≤ 16) (x : Int32) : zM l E y_P_ran b_P_ran 2 ((some .int)) rm_P_ran [.ref (A (0, 0)), .int x] (cp E A K X S R) (zPi (qRan K R x) (cp E A K X S R)) := by
  refine zM_w (by decide +kernel) rfl rfl (fun sz => ?_)
  obtain ⟨⟨⟨h0, b0⟩, ⟨h2, b2⟩, ⟨h4, b4⟩, ⟨h7, b7⟩, ⟨h16, b16⟩⟩, h18, h19, hp, hf0, hs, hst⟩ := id hX
  have e0 := cp_0 (E := E) (X := X) (S := S) (R := R) hA
  by_cases hz : K 104 0 = 0
  · rw [if_pos hz] at e0
    refine z_iload_n d_P_ran_0 rfl ?_
    refine z_if_lt (tgt := 9) d_P_ran_1 (by decide) (fun c1 => ?_) (fun c1 => ?_)
    · refine z_bipush (v := -2) d_P_ran_9 bp_m2 ?_
      exact z_iret rfl d_P_ran_11 (zlq rfl) (zlq rfl) (by unfold qRan; rw [if_pos c1]; exact ⟨rfl, rfl⟩)
    · refine z_iload_n d_P_ran_4 rfl ?_
      refine z_iconst d_P_ran_5 ic_2 ?_
      refine z_icmp_le (tgt := 12) d_P_ran_6 (by decide) (fun c6 => ?_) (fun c6 => ?_)
      · refine z_aload_n d_P_ran_12 rfl ?_
        refine z_get fa_P_59 d_P_ran_13 e0 rfl ?_
        refine z_ifnonnullN d_P_ran_16 ?_
        refine z_iconst d_P_ran_19 ic_0 ?_
        exact z_iret rfl d_P_ran_20 (zlq rfl) (zlq rfl) (by unfold qRan; rw [if_neg c1, if_pos c6, if_pos hz]; exact ⟨rfl, rfl⟩)
      · refine z_bipush (v := -2) d_P_ran_9 bp_m2 ?_
        exact z_iret rfl d_P_ran_11 (zlq rfl) (zlq rfl) (by unfold qRan; rw [if_neg c1, if_neg c6]; exact ⟨rfl, rfl⟩)
  · rw [if_neg hz] at e0
    have hf := hL hz
    refine z_iload_n d_P_ran_0 rfl ?_
    refine z_if_lt (tgt := 9) d_P_ran_1 (by decide) (fun c1 => ?_) (fun c1 => ?_)
    · refine z_bipush (v := -2) d_P_ran_9 bp_m2 ?_
      exact z_iret rfl d_P_ran_11 (zlq rfl) (zlq rfl) (by unfold qRan; rw [if_pos c1]; exact ⟨rfl, rfl⟩)
    · refine z_iload_n d_P_ran_4 rfl ?_
      refine z_iconst d_P_ran_5 ic_2 ?_
      refine z_icmp_le (tgt := 12) d_P_ran_6 (by decide) (fun c6 => ?_) (fun c6 => ?_)
      · refine z_aload_n d_P_ran_12 rfl ?_
        refine z_get fa_P_59 d_P_ran_13 e0 rfl ?_
        refine z_ifnonnullR (tgt := 21) d_P_ran_16 (by decide) ?_
        refine z_iload_n d_P_ran_21 rfl ?_
        refine z_if_ne (tgt := 40) d_P_ran_22 (by decide) (fun c22 => ?_) (fun c22 => ?_)
        · refine z_iload_n d_P_ran_40 rfl ?_
          refine z_iconst d_P_ran_41 ic_1 ?_
          refine z_icmp_ne (tgt := 58) d_P_ran_42 (by decide) (fun c42 => ?_) (fun c42 => ?_)
          · refine z_aload_n d_P_ran_58 rfl ?_
            refine z_get fa_P_59 d_P_ran_59 e0 rfl ?_
            refine z_get fa_P_206 d_P_ran_62 (cp_26 hA hf) rfl ?_
            exact z_iret rfl d_P_ran_65 (zlq rfl) (zlq rfl) (by unfold qRan; rw [if_neg c1, if_pos c6, if_neg hz, if_neg c22, if_neg c42]; exact ⟨rfl, rfl⟩)
          · refine z_aload_n d_P_ran_45 rfl ?_
            refine z_get fa_P_59 d_P_ran_46 e0 rfl ?_
            refine z_get fa_P_199 d_P_ran_49 (cp_26 hA hf) rfl ?_
            refine z_cVi (c_sizeP l E hA _ _ _ hf hn16) cb_AD_size ci_AD_size ln_P_203 (cp_29 hA hf) rfl rfl (zlq rfl) rfl (zlq rfl) (zlq rfl) d_P_ran_52 ?_
            refine z_goto (tgt := 65) d_P_ran_55 (by decide) ?_
            exact z_iret rfl d_P_ran_65 (zlq rfl) (zlq rfl) (by unfold qRan; rw [if_neg c1, if_pos c6, if_neg hz, if_neg c22, if_pos c42]; exact ⟨rfl, rfl⟩)
        · refine z_aload_n d_P_ran_25 rfl ?_
          refine z_get fa_P_59 d_P_ran_26 e0 rfl ?_
          refine z_get fa_P_196 d_P_ran_29 (cp_26 hA hf) rfl ?_
          refine z_cFi (c_sizeT l E hA _ _ _ hf) cb_AL_size cf_size k_361 (cp_27 hA hf) rfl rfl (zlq rfl) rfl (zlq rfl) (zlq rfl) d_P_ran_32 ?_
          refine z_goto (tgt := 65) d_P_ran_37 (by decide) ?_
          exact z_iret rfl d_P_ran_65 (zlq rfl) (zlq rfl) (by unfold qRan; rw [if_neg c1, if_pos c6, if_neg hz, if_pos c22]; exact ⟨rfl, rfl⟩)
      · refine z_bipush (v := -2) d_P_ran_9 bp_m2 ?_
        exact z_iret rfl d_P_ran_11 (zlq rfl) (zlq rfl) (by unfold qRan; rw [if_neg c1, if_neg c6]; exact ⟨rfl, rfl⟩)
