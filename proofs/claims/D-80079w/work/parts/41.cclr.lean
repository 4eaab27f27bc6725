/-! the component: clear, met, ran -/
theorem clr_f {n : Nat} {g g' : Nat → Nat} : (fun j => if j < n then none else (if j < n then some (g j) else none)) = (fun j => if j < 0 then some (g' j) else (none : Option Nat)) := by funext j; by_cases c : j < n <;> simp [c]
abbrev kcS (K : Nat → Nat → Nat) : Nat → Nat → Nat := ku (ku (ku K 101 0 0) 75 0 (K 75 0 + 1)) 106 0 0
theorem cdm_kcS {K : Nat → Nat → Nat} {r : rl} (hr : cdm (kcS K) r) : cdm K r := by
  obtain ⟨k, j⟩ := r
  unfold cdm at hr
  split at hr
  · rename_i q0; injection q0 with q1 q2; subst q1; subst q2
    exact hr
  · rename_i q0; injection q0 with q1 q2; subst q1; subst q2
    exact hr
  · rename_i q0; injection q0 with q1 q2; subst q1; subst q2
    exact hr
  · rename_i q0; injection q0 with q1 q2; subst q1; subst q2
    exact hr
  · rename_i q0; injection q0 with q1 q2; subst q1; subst q2
    exact hr
  · rename_i q0; injection q0 with q1 q2; subst q1; subst q2
    exact hr
  · rename_i q0; injection q0 with q1 q2; subst q1; subst q2
    exact hr
  · rename_i q0; injection q0 with q1 q2; subst q1; subst q2
    exact hr
  · rename_i q0; injection q0 with q1 q2; subst q1; subst q2
    exact absurd hr (Nat.not_lt_zero _)
  · rename_i q0; injection q0 with q1 q2; subst q1; subst q2
    exact hr
  · rename_i q0; injection q0 with q1 q2; subst q1; subst q2
    exact hr
  · rename_i q0; injection q0 with q1 q2; subst q1; subst q2
    exact hr
  · rename_i q0; injection q0 with q1 q2; subst q1; subst q2
    exact hr
  · rename_i q0; injection q0 with q1 q2; subst q1; subst q2
    exact hr
  · rename_i q0; injection q0 with q1 q2; subst q1; subst q2
    exact hr
  · rename_i q0; injection q0 with q1 q2; subst q1; subst q2
    exact hr
  · rename_i q0; injection q0 with q1 q2; subst q1; subst q2
    exact hr
  · rename_i q0; injection q0 with q1 q2; subst q1; subst q2
    exact hr
  · rename_i q0; injection q0 with q1 q2; subst q1; subst q2
    exact hr
  · rename_i q0; injection q0 with q1 q2; subst q1; subst q2
    exact hr
  · rename_i q0; injection q0 with q1 q2; subst q1; subst q2
    exact hr
  · rename_i q0; injection q0 with q1 q2; subst q1; subst q2
    exact hr
  · rename_i q0; injection q0 with q1 q2; subst q1; subst q2
    exact hr
  · rename_i q0; injection q0 with q1 q2; subst q1; subst q2
    exact hr
  · rename_i q0; injection q0 with q1 q2; subst q1; subst q2
    exact hr
  · rename_i q0; injection q0 with q1 q2; subst q1; subst q2
    exact hr
  · rename_i q0; injection q0 with q1 q2; subst q1; subst q2
    exact hr
  · rename_i q0; injection q0 with q1 q2; subst q1; subst q2
    exact hr
  · rename_i q0; injection q0 with q1 q2; subst q1; subst q2
    exact hr
  · rename_i q0; injection q0 with q1 q2; subst q1; subst q2
    exact hr
  · rename_i q0; injection q0 with q1 q2; subst q1; subst q2
    exact hr
  · exact hr.elim
theorem cp_clrSR {E : zE} {A : rl → Nat} {K : Nat → Nat → Nat} (hA : cIj K A) {X S R : zSt} (hz : K 0 0 ≠ 0) : zle (cp E A (kcS K) X S R) (zpu (zpu (cp E A K X S R) (A (3, 0)) (zeO E (K 0 0) (fun j => if j < K 101 0 then none else (fun i => if i < K 101 0 then some (A (8, i)) else none) j))) (A (2, 0)) (zob 9 [.int (nI (K 75 0) + nI 1), .ref (A (3, 0)), .int (nI 0)])) := by
  have dl : cdm K (2, 0) := rfl
  have dA : cdm K (3, 0) := ⟨rfl, hz⟩
  have nla : A (3, 0) ≠ A (2, 0) := fun z => by have := hA _ _ dA dl z; injection this with z1; exact absurd z1 (by decide)
  refine cp_chg (X := X) (S := S) (R := R) hA (fun r => r = (2, 0) ∨ r = (3, 0)) (fun r hs hr0 => ?_) (fun r hs hd => ?_) (fun r hs hr => ⟨cdm_kcS hr, rfl, ?_⟩)
  · rcases hs with rfl | rfl
    · rw [zpu_s]
      show some _ = some (zob 9 [.int (nI (K 75 0 + 1)), (if K 0 0 = 0 then .ref (zt0 E) else .ref (A (3, 0))), .int (nI 0)])
      rw [if_neg hz, nI_add]
    · rw [zpu_n nla, zpu_s]
      show some _ = some (zeO E (K 0 0) (fun i => if i < 0 then some (A (8, i)) else none))
      rw [← clr_f (n := K 101 0) (g := fun i => A (8, i))]
  · rw [zpu_n (fun z => hs (Or.inl (hA _ _ hd dl z))), zpu_n (fun z => hs (Or.inr (hA _ _ hd dA z)))]
  · obtain ⟨k, j⟩ := r
    unfold cdm at hr
    split at hr
    · rename_i q0; injection q0 with q1 q2; subst q1; subst q2
      exact (cct_k0 rfl rfl rfl rfl rfl rfl rfl rfl rfl rfl rfl rfl rfl rfl rfl rfl)
    · rename_i q0; injection q0 with q1 q2; subst q1; subst q2
      exact (cct_k1 rfl)
    · rename_i q0; injection q0 with q1 q2; subst q1; subst q2
      exact absurd (by rw [show j = 0 from hr]; exact Or.inl rfl) hs
    · rename_i q0; injection q0 with q1 q2; subst q1; subst q2
      exact absurd (by rw [show j = 0 from hr.1]; exact Or.inr rfl) hs
    · rename_i q0; injection q0 with q1 q2; subst q1; subst q2
      exact (cct_k4 rfl rfl rfl rfl)
    · rename_i q0; injection q0 with q1 q2; subst q1; subst q2
      exact (cct_k5 rfl rfl (fun _ _ => rfl))
    · rename_i q0; injection q0 with q1 q2; subst q1; subst q2
      exact (cct_k6 rfl rfl rfl rfl)
    · rename_i q0; injection q0 with q1 q2; subst q1; subst q2
      exact (cct_k7 rfl rfl (fun _ _ => rfl))
    · rename_i q0; injection q0 with q1 q2; subst q1; subst q2
      exact absurd hr (Nat.not_lt_zero _)
    · rename_i q0; injection q0 with q1 q2; subst q1; subst q2
      exact (cct_k9 rfl rfl rfl rfl rfl rfl rfl)
    · rename_i q0; injection q0 with q1 q2; subst q1; subst q2
      exact (cct_k10 rfl)
    · rename_i q0; injection q0 with q1 q2; subst q1; subst q2
      exact (cct_k11 rfl rfl)
    · rename_i q0; injection q0 with q1 q2; subst q1; subst q2
      exact (cct_k12 (fun _ => rfl))
    · rename_i q0; injection q0 with q1 q2; subst q1; subst q2
      exact (cct_k19 rfl rfl rfl rfl)
    · rename_i q0; injection q0 with q1 q2; subst q1; subst q2
      exact (cct_k20 rfl rfl)
    · rename_i q0; injection q0 with q1 q2; subst q1; subst q2
      exact (cct_k21 (fun _ => rfl))
    · rename_i q0; injection q0 with q1 q2; subst q1; subst q2
      exact (cct_k22 rfl rfl rfl)
    · rename_i q0; injection q0 with q1 q2; subst q1; subst q2
      exact (cct_k23 rfl rfl rfl)
    · rename_i q0; injection q0 with q1 q2; subst q1; subst q2
      exact (cct_k24 rfl rfl rfl)
    · rename_i q0; injection q0 with q1 q2; subst q1; subst q2
      exact (cct_k25 rfl rfl rfl)
    · rename_i q0; injection q0 with q1 q2; subst q1; subst q2
      exact (cct_k26 rfl rfl rfl rfl rfl rfl rfl)
    · rename_i q0; injection q0 with q1 q2; subst q1; subst q2
      exact (cct_k27 rfl rfl rfl rfl)
    · rename_i q0; injection q0 with q1 q2; subst q1; subst q2
      exact (cct_k28 rfl rfl (fun _ _ => rfl))
    · rename_i q0; injection q0 with q1 q2; subst q1; subst q2
      exact (cct_k29 rfl rfl)
    · rename_i q0; injection q0 with q1 q2; subst q1; subst q2
      exact (cct_k30 rfl (fun _ _ => rfl))
    · rename_i q0; injection q0 with q1 q2; subst q1; subst q2
      exact (cct_k31 (fun _ _ => rfl))
    · rename_i q0; injection q0 with q1 q2; subst q1; subst q2
      exact (cct_k32 rfl)
    · rename_i q0; injection q0 with q1 q2; subst q1; subst q2
      exact (cct_k33 rfl rfl rfl)
    · rename_i q0; injection q0 with q1 q2; subst q1; subst q2
      exact (cct_k34 (fun _ _ => rfl))
    · rename_i q0; injection q0 with q1 q2; subst q1; subst q2
      exact (cct_k35 rfl rfl rfl rfl)
    · rename_i q0; injection q0 with q1 q2; subst q1; subst q2
      exact (cct_k36 (fun _ _ => rfl))
    · exact hr.elim
theorem cp_clrSE {E : zE} {A : rl → Nat} {K : Nat → Nat → Nat} (hA : cIj K A) {X S R : zSt} (hz : K 0 0 = 0) : zle (cp E A (kcS K) X S R) (zpu (cp E A K X S R) (A (2, 0)) (zob 9 [.int (nI (K 75 0) + nI 1), .ref (zt0 E), .int (nI 0)])) := by
  have dl : cdm K (2, 0) := rfl
  refine cp_chg (X := X) (S := S) (R := R) hA (fun r => r = (2, 0)) (fun r hs hr0 => ?_) (fun r hs hd => ?_) (fun r hs hr => ⟨cdm_kcS hr, rfl, ?_⟩)
  · rw [hs, zpu_s]
    show some _ = some (zob 9 [.int (nI (K 75 0 + 1)), (if K 0 0 = 0 then .ref (zt0 E) else .ref (A (3, 0))), .int (nI 0)])
    rw [if_pos hz, nI_add]
  · exact zpu_n (fun z => hs (hA _ _ hd dl z))
  · obtain ⟨k, j⟩ := r
    unfold cdm at hr
    split at hr
    · rename_i q0; injection q0 with q1 q2; subst q1; subst q2
      exact (cct_k0 rfl rfl rfl rfl rfl rfl rfl rfl rfl rfl rfl rfl rfl rfl rfl rfl)
    · rename_i q0; injection q0 with q1 q2; subst q1; subst q2
      exact (cct_k1 rfl)
    · rename_i q0; injection q0 with q1 q2; subst q1; subst q2
      exact absurd (by rw [show j = 0 from hr]) hs
    · rename_i q0; injection q0 with q1 q2; subst q1; subst q2
      exact absurd hz hr.2
    · rename_i q0; injection q0 with q1 q2; subst q1; subst q2
      exact (cct_k4 rfl rfl rfl rfl)
    · rename_i q0; injection q0 with q1 q2; subst q1; subst q2
      exact (cct_k5 rfl rfl (fun _ _ => rfl))
    · rename_i q0; injection q0 with q1 q2; subst q1; subst q2
      exact (cct_k6 rfl rfl rfl rfl)
    · rename_i q0; injection q0 with q1 q2; subst q1; subst q2
      exact (cct_k7 rfl rfl (fun _ _ => rfl))
    · rename_i q0; injection q0 with q1 q2; subst q1; subst q2
      exact absurd hr (Nat.not_lt_zero _)
    · rename_i q0; injection q0 with q1 q2; subst q1; subst q2
      exact (cct_k9 rfl rfl rfl rfl rfl rfl rfl)
    · rename_i q0; injection q0 with q1 q2; subst q1; subst q2
      exact (cct_k10 rfl)
    · rename_i q0; injection q0 with q1 q2; subst q1; subst q2
      exact (cct_k11 rfl rfl)
    · rename_i q0; injection q0 with q1 q2; subst q1; subst q2
      exact (cct_k12 (fun _ => rfl))
    · rename_i q0; injection q0 with q1 q2; subst q1; subst q2
      exact (cct_k19 rfl rfl rfl rfl)
    · rename_i q0; injection q0 with q1 q2; subst q1; subst q2
      exact (cct_k20 rfl rfl)
    · rename_i q0; injection q0 with q1 q2; subst q1; subst q2
      exact (cct_k21 (fun _ => rfl))
    · rename_i q0; injection q0 with q1 q2; subst q1; subst q2
      exact (cct_k22 rfl rfl rfl)
    · rename_i q0; injection q0 with q1 q2; subst q1; subst q2
      exact (cct_k23 rfl rfl rfl)
    · rename_i q0; injection q0 with q1 q2; subst q1; subst q2
      exact (cct_k24 rfl rfl rfl)
    · rename_i q0; injection q0 with q1 q2; subst q1; subst q2
      exact (cct_k25 rfl rfl rfl)
    · rename_i q0; injection q0 with q1 q2; subst q1; subst q2
      exact (cct_k26 rfl rfl rfl rfl rfl rfl rfl)
    · rename_i q0; injection q0 with q1 q2; subst q1; subst q2
      exact (cct_k27 rfl rfl rfl rfl)
    · rename_i q0; injection q0 with q1 q2; subst q1; subst q2
      exact (cct_k28 rfl rfl (fun _ _ => rfl))
    · rename_i q0; injection q0 with q1 q2; subst q1; subst q2
      exact (cct_k29 rfl rfl)
    · rename_i q0; injection q0 with q1 q2; subst q1; subst q2
      exact (cct_k30 rfl (fun _ _ => rfl))
    · rename_i q0; injection q0 with q1 q2; subst q1; subst q2
      exact (cct_k31 (fun _ _ => rfl))
    · rename_i q0; injection q0 with q1 q2; subst q1; subst q2
      exact (cct_k32 rfl)
    · rename_i q0; injection q0 with q1 q2; subst q1; subst q2
      exact (cct_k33 rfl rfl rfl)
    · rename_i q0; injection q0 with q1 q2; subst q1; subst q2
      exact (cct_k34 (fun _ _ => rfl))
    · rename_i q0; injection q0 with q1 q2; subst q1; subst q2
      exact (cct_k35 rfl rfl rfl rfl)
    · rename_i q0; injection q0 with q1 q2; subst q1; subst q2
      exact (cct_k36 (fun _ _ => rfl))
    · exact hr.elim
theorem c_clrS (l : Launch) (E : zE) {A : rl → Nat} {K : Nat → Nat → Nat} (hA : cIj K A) (X S R : zSt) (h1 : K 101 0 ≤ K 0 0) (h2 : K 0 0 ≤ 90) : zM l E y_AL_clear b_AL_clear 4 none rm_AL_clear [.ref (A (2, 0))] (cp E A K X S R) (zPv (cp E A (kcS K) X S R)) := by
  have eL := cp_2 (E := E) (X := X) (S := S) (R := R) hA
  by_cases hz : K 0 0 = 0
  · rw [show car E A K 3 0 0 0 = .ref (zt0 E) from if_pos hz, show K 101 0 = 0 by omega] at eL
    refine zM_cs (c_AL_clearE l E _ _ _ eL) (zlq rfl) (zlq rfl) (zlq rfl) (zlq rfl) (fun v h' hv => ?_)
    obtain ⟨rfl, rfl⟩ := hv
    exact ⟨_, cp_clrSE hA hz, rfl, rfl⟩
  · rw [show car E A K 3 0 0 0 = .ref (A (3, 0)) from if_neg hz] at eL
    refine zM_cs (c_AL_clear l E _ _ _ _ _ _ _ eL (cp_3 hA hz) h1 (by omega)) (zlq rfl) (zlq rfl) (zlq rfl) (zlq rfl) (fun v h' hv => ?_)
    obtain ⟨rfl, rfl⟩ := hv
    exact ⟨_, cp_clrSR hA hz, rfl, rfl⟩
abbrev kcB (K : Nat → Nat → Nat) : Nat → Nat → Nat := ku (ku (ku K 100 0 0) 76 0 (K 76 0 + 1)) 105 0 0
theorem cdm_kcB {K : Nat → Nat → Nat} {r : rl} (hr : cdm (kcB K) r) : cdm K r := by
  obtain ⟨k, j⟩ := r
  unfold cdm at hr
  split at hr
  · rename_i q0; injection q0 with q1 q2; subst q1; subst q2
    exact hr
  · rename_i q0; injection q0 with q1 q2; subst q1; subst q2
    exact hr
  · rename_i q0; injection q0 with q1 q2; subst q1; subst q2
    exact hr
  · rename_i q0; injection q0 with q1 q2; subst q1; subst q2
    exact hr
  · rename_i q0; injection q0 with q1 q2; subst q1; subst q2
    exact hr
  · rename_i q0; injection q0 with q1 q2; subst q1; subst q2
    exact hr
  · rename_i q0; injection q0 with q1 q2; subst q1; subst q2
    exact absurd hr (Nat.not_lt_zero _)
  · rename_i q0; injection q0 with q1 q2; subst q1; subst q2
    exact absurd hr.1 (Nat.not_lt_zero _)
  · rename_i q0; injection q0 with q1 q2; subst q1; subst q2
    exact hr
  · rename_i q0; injection q0 with q1 q2; subst q1; subst q2
    exact hr
  · rename_i q0; injection q0 with q1 q2; subst q1; subst q2
    exact hr
  · rename_i q0; injection q0 with q1 q2; subst q1; subst q2
    exact hr
  · rename_i q0; injection q0 with q1 q2; subst q1; subst q2
    exact hr
  · rename_i q0; injection q0 with q1 q2; subst q1; subst q2
    exact hr
  · rename_i q0; injection q0 with q1 q2; subst q1; subst q2
    exact hr
  · rename_i q0; injection q0 with q1 q2; subst q1; subst q2
    exact hr
  · rename_i q0; injection q0 with q1 q2; subst q1; subst q2
    exact hr
  · rename_i q0; injection q0 with q1 q2; subst q1; subst q2
    exact hr
  · rename_i q0; injection q0 with q1 q2; subst q1; subst q2
    exact hr
  · rename_i q0; injection q0 with q1 q2; subst q1; subst q2
    exact hr
  · rename_i q0; injection q0 with q1 q2; subst q1; subst q2
    exact hr
  · rename_i q0; injection q0 with q1 q2; subst q1; subst q2
    exact hr
  · rename_i q0; injection q0 with q1 q2; subst q1; subst q2
    exact hr
  · rename_i q0; injection q0 with q1 q2; subst q1; subst q2
    exact hr
  · rename_i q0; injection q0 with q1 q2; subst q1; subst q2
    exact hr
  · rename_i q0; injection q0 with q1 q2; subst q1; subst q2
    exact hr
  · rename_i q0; injection q0 with q1 q2; subst q1; subst q2
    exact hr
  · rename_i q0; injection q0 with q1 q2; subst q1; subst q2
    exact hr
  · rename_i q0; injection q0 with q1 q2; subst q1; subst q2
    exact hr
  · rename_i q0; injection q0 with q1 q2; subst q1; subst q2
    exact hr
  · rename_i q0; injection q0 with q1 q2; subst q1; subst q2
    exact hr
  · exact hr.elim
theorem cp_clrBR {E : zE} {A : rl → Nat} {K : Nat → Nat → Nat} (hA : cIj K A) {X S R : zSt} (hz : K 1 0 ≠ 0) : zle (cp E A (kcB K) X S R) (zpu (zpu (cp E A K X S R) (A (5, 0)) (zeO E (K 1 0) (fun j => if j < K 100 0 then none else (fun i => if i < K 100 0 then some (A (6, i)) else none) j))) (A (4, 0)) (zob 9 [.int (nI (K 76 0) + nI 1), .ref (A (5, 0)), .int (nI 0)])) := by
  have dl : cdm K (4, 0) := rfl
  have dA : cdm K (5, 0) := ⟨rfl, hz⟩
  have nla : A (5, 0) ≠ A (4, 0) := fun z => by have := hA _ _ dA dl z; injection this with z1; exact absurd z1 (by decide)
  refine cp_chg (X := X) (S := S) (R := R) hA (fun r => r = (4, 0) ∨ r = (5, 0)) (fun r hs hr0 => ?_) (fun r hs hd => ?_) (fun r hs hr => ⟨cdm_kcB hr, rfl, ?_⟩)
  · rcases hs with rfl | rfl
    · rw [zpu_s]
      show some _ = some (zob 9 [.int (nI (K 76 0 + 1)), (if K 1 0 = 0 then .ref (zt0 E) else .ref (A (5, 0))), .int (nI 0)])
      rw [if_neg hz, nI_add]
    · rw [zpu_n nla, zpu_s]
      show some _ = some (zeO E (K 1 0) (fun i => if i < 0 then some (A (6, i)) else none))
      rw [← clr_f (n := K 100 0) (g := fun i => A (6, i))]
  · rw [zpu_n (fun z => hs (Or.inl (hA _ _ hd dl z))), zpu_n (fun z => hs (Or.inr (hA _ _ hd dA z)))]
  · obtain ⟨k, j⟩ := r
    unfold cdm at hr
    split at hr
    · rename_i q0; injection q0 with q1 q2; subst q1; subst q2
      exact (cct_k0 rfl rfl rfl rfl rfl rfl rfl rfl rfl rfl rfl rfl rfl rfl rfl rfl)
    · rename_i q0; injection q0 with q1 q2; subst q1; subst q2
      exact (cct_k1 rfl)
    · rename_i q0; injection q0 with q1 q2; subst q1; subst q2
      exact (cct_k2 rfl rfl rfl rfl)
    · rename_i q0; injection q0 with q1 q2; subst q1; subst q2
      exact (cct_k3 rfl rfl (fun _ _ => rfl))
    · rename_i q0; injection q0 with q1 q2; subst q1; subst q2
      exact absurd (by rw [show j = 0 from hr]; exact Or.inl rfl) hs
    · rename_i q0; injection q0 with q1 q2; subst q1; subst q2
      exact absurd (by rw [show j = 0 from hr.1]; exact Or.inr rfl) hs
    · rename_i q0; injection q0 with q1 q2; subst q1; subst q2
      exact absurd hr (Nat.not_lt_zero _)
    · rename_i q0; injection q0 with q1 q2; subst q1; subst q2
      exact absurd hr.1 (Nat.not_lt_zero _)
    · rename_i q0; injection q0 with q1 q2; subst q1; subst q2
      exact (cct_k8 rfl rfl rfl rfl rfl rfl rfl rfl)
    · rename_i q0; injection q0 with q1 q2; subst q1; subst q2
      exact (cct_k9 rfl rfl rfl rfl rfl rfl rfl)
    · rename_i q0; injection q0 with q1 q2; subst q1; subst q2
      exact (cct_k10 rfl)
    · rename_i q0; injection q0 with q1 q2; subst q1; subst q2
      exact (cct_k11 rfl rfl)
    · rename_i q0; injection q0 with q1 q2; subst q1; subst q2
      exact (cct_k12 (fun _ => rfl))
    · rename_i q0; injection q0 with q1 q2; subst q1; subst q2
      exact (cct_k19 rfl rfl rfl rfl)
    · rename_i q0; injection q0 with q1 q2; subst q1; subst q2
      exact (cct_k20 rfl rfl)
    · rename_i q0; injection q0 with q1 q2; subst q1; subst q2
      exact (cct_k21 (fun _ => rfl))
    · rename_i q0; injection q0 with q1 q2; subst q1; subst q2
      exact (cct_k22 rfl rfl rfl)
    · rename_i q0; injection q0 with q1 q2; subst q1; subst q2
      exact (cct_k23 rfl rfl rfl)
    · rename_i q0; injection q0 with q1 q2; subst q1; subst q2
      exact (cct_k24 rfl rfl rfl)
    · rename_i q0; injection q0 with q1 q2; subst q1; subst q2
      exact (cct_k25 rfl rfl rfl)
    · rename_i q0; injection q0 with q1 q2; subst q1; subst q2
      exact (cct_k26 rfl rfl rfl rfl rfl rfl rfl)
    · rename_i q0; injection q0 with q1 q2; subst q1; subst q2
      exact (cct_k27 rfl rfl rfl rfl)
    · rename_i q0; injection q0 with q1 q2; subst q1; subst q2
      exact (cct_k28 rfl rfl (fun _ _ => rfl))
    · rename_i q0; injection q0 with q1 q2; subst q1; subst q2
      exact (cct_k29 rfl rfl)
    · rename_i q0; injection q0 with q1 q2; subst q1; subst q2
      exact (cct_k30 rfl (fun _ _ => rfl))
    · rename_i q0; injection q0 with q1 q2; subst q1; subst q2
      exact (cct_k31 (fun _ _ => rfl))
    · rename_i q0; injection q0 with q1 q2; subst q1; subst q2
      exact (cct_k32 rfl)
    · rename_i q0; injection q0 with q1 q2; subst q1; subst q2
      exact (cct_k33 rfl rfl rfl)
    · rename_i q0; injection q0 with q1 q2; subst q1; subst q2
      exact (cct_k34 (fun _ _ => rfl))
    · rename_i q0; injection q0 with q1 q2; subst q1; subst q2
      exact (cct_k35 rfl rfl rfl rfl)
    · rename_i q0; injection q0 with q1 q2; subst q1; subst q2
      exact (cct_k36 (fun _ _ => rfl))
    · exact hr.elim
theorem cp_clrBE {E : zE} {A : rl → Nat} {K : Nat → Nat → Nat} (hA : cIj K A) {X S R : zSt} (hz : K 1 0 = 0) : zle (cp E A (kcB K) X S R) (zpu (cp E A K X S R) (A (4, 0)) (zob 9 [.int (nI (K 76 0) + nI 1), .ref (zt0 E), .int (nI 0)])) := by
  have dl : cdm K (4, 0) := rfl
  refine cp_chg (X := X) (S := S) (R := R) hA (fun r => r = (4, 0)) (fun r hs hr0 => ?_) (fun r hs hd => ?_) (fun r hs hr => ⟨cdm_kcB hr, rfl, ?_⟩)
  · rw [hs, zpu_s]
    show some _ = some (zob 9 [.int (nI (K 76 0 + 1)), (if K 1 0 = 0 then .ref (zt0 E) else .ref (A (5, 0))), .int (nI 0)])
    rw [if_pos hz, nI_add]
  · exact zpu_n (fun z => hs (hA _ _ hd dl z))
  · obtain ⟨k, j⟩ := r
    unfold cdm at hr
    split at hr
    · rename_i q0; injection q0 with q1 q2; subst q1; subst q2
      exact (cct_k0 rfl rfl rfl rfl rfl rfl rfl rfl rfl rfl rfl rfl rfl rfl rfl rfl)
    · rename_i q0; injection q0 with q1 q2; subst q1; subst q2
      exact (cct_k1 rfl)
    · rename_i q0; injection q0 with q1 q2; subst q1; subst q2
      exact (cct_k2 rfl rfl rfl rfl)
    · rename_i q0; injection q0 with q1 q2; subst q1; subst q2
      exact (cct_k3 rfl rfl (fun _ _ => rfl))
    · rename_i q0; injection q0 with q1 q2; subst q1; subst q2
      exact absurd (by rw [show j = 0 from hr]) hs
    · rename_i q0; injection q0 with q1 q2; subst q1; subst q2
      exact absurd hz hr.2
    · rename_i q0; injection q0 with q1 q2; subst q1; subst q2
      exact absurd hr (Nat.not_lt_zero _)
    · rename_i q0; injection q0 with q1 q2; subst q1; subst q2
      exact absurd hr.1 (Nat.not_lt_zero _)
    · rename_i q0; injection q0 with q1 q2; subst q1; subst q2
      exact (cct_k8 rfl rfl rfl rfl rfl rfl rfl rfl)
    · rename_i q0; injection q0 with q1 q2; subst q1; subst q2
      exact (cct_k9 rfl rfl rfl rfl rfl rfl rfl)
    · rename_i q0; injection q0 with q1 q2; subst q1; subst q2
      exact (cct_k10 rfl)
    · rename_i q0; injection q0 with q1 q2; subst q1; subst q2
      exact (cct_k11 rfl rfl)
    · rename_i q0; injection q0 with q1 q2; subst q1; subst q2
      exact (cct_k12 (fun _ => rfl))
    · rename_i q0; injection q0 with q1 q2; subst q1; subst q2
      exact (cct_k19 rfl rfl rfl rfl)
    · rename_i q0; injection q0 with q1 q2; subst q1; subst q2
      exact (cct_k20 rfl rfl)
    · rename_i q0; injection q0 with q1 q2; subst q1; subst q2
      exact (cct_k21 (fun _ => rfl))
    · rename_i q0; injection q0 with q1 q2; subst q1; subst q2
      exact (cct_k22 rfl rfl rfl)
    · rename_i q0; injection q0 with q1 q2; subst q1; subst q2
      exact (cct_k23 rfl rfl rfl)
    · rename_i q0; injection q0 with q1 q2; subst q1; subst q2
      exact (cct_k24 rfl rfl rfl)
    · rename_i q0; injection q0 with q1 q2; subst q1; subst q2
      exact (cct_k25 rfl rfl rfl)
    · rename_i q0; injection q0 with q1 q2; subst q1; subst q2
      exact (cct_k26 rfl rfl rfl rfl rfl rfl rfl)
    · rename_i q0; injection q0 with q1 q2; subst q1; subst q2
      exact (cct_k27 rfl rfl rfl rfl)
    · rename_i q0; injection q0 with q1 q2; subst q1; subst q2
      exact (cct_k28 rfl rfl (fun _ _ => rfl))
    · rename_i q0; injection q0 with q1 q2; subst q1; subst q2
      exact (cct_k29 rfl rfl)
    · rename_i q0; injection q0 with q1 q2; subst q1; subst q2
      exact (cct_k30 rfl (fun _ _ => rfl))
    · rename_i q0; injection q0 with q1 q2; subst q1; subst q2
      exact (cct_k31 (fun _ _ => rfl))
    · rename_i q0; injection q0 with q1 q2; subst q1; subst q2
      exact (cct_k32 rfl)
    · rename_i q0; injection q0 with q1 q2; subst q1; subst q2
      exact (cct_k33 rfl rfl rfl)
    · rename_i q0; injection q0 with q1 q2; subst q1; subst q2
      exact (cct_k34 (fun _ _ => rfl))
    · rename_i q0; injection q0 with q1 q2; subst q1; subst q2
      exact (cct_k35 rfl rfl rfl rfl)
    · rename_i q0; injection q0 with q1 q2; subst q1; subst q2
      exact (cct_k36 (fun _ _ => rfl))
    · exact hr.elim
theorem c_clrB (l : Launch) (E : zE) {A : rl → Nat} {K : Nat → Nat → Nat} (hA : cIj K A) (X S R : zSt) (h1 : K 100 0 ≤ K 1 0) (h2 : K 1 0 ≤ 90) : zM l E y_AL_clear b_AL_clear 4 none rm_AL_clear [.ref (A (4, 0))] (cp E A K X S R) (zPv (cp E A (kcB K) X S R)) := by
  have eL := cp_4 (E := E) (X := X) (S := S) (R := R) hA
  by_cases hz : K 1 0 = 0
  · rw [show car E A K 5 1 0 0 = .ref (zt0 E) from if_pos hz, show K 100 0 = 0 by omega] at eL
    refine zM_cs (c_AL_clearE l E _ _ _ eL) (zlq rfl) (zlq rfl) (zlq rfl) (zlq rfl) (fun v h' hv => ?_)
    obtain ⟨rfl, rfl⟩ := hv
    exact ⟨_, cp_clrBE hA hz, rfl, rfl⟩
  · rw [show car E A K 5 1 0 0 = .ref (A (5, 0)) from if_neg hz] at eL
    refine zM_cs (c_AL_clear l E _ _ _ _ _ _ _ eL (cp_5 hA hz) h1 (by omega)) (zlq rfl) (zlq rfl) (zlq rfl) (zlq rfl) (fun v h' hv => ?_)
    obtain ⟨rfl, rfl⟩ := hv
    exact ⟨_, cp_clrBR hA hz, rfl, rfl⟩
abbrev rm_P_clear : Room := { frames := 1, cells := 0, slots := 0, locals := 23 }
set_option maxHeartbeats 4000000 in
set_option maxRecDepth 100000 in
theorem c_P_clear (l : Launch) (E : zE) {A : rl → Nat} {K : Nat → Nat → Nat} (hA : cIj K A) (Z S : zSt) (hX : tInv Z) (hK : kI K Z) : zM l E y_P_clear b_P_clear 2 ((some .int)) rm_P_clear [.ref (A (0, 0))] (cp E A K Z S Z) (fun v h' => v = some (.int (tClr Z).1) ∧ h' = cp E A (kz (kcB (kcS K))) (tClr Z).2 S (tClr Z).2 ∧ cIj (kz (kcB (kcS K))) A) := by
  refine zM_w (by decide +kernel) rfl rfl (fun sz => ?_)
  obtain ⟨⟨⟨h0, b0⟩, ⟨h2, b2⟩, ⟨h4, b4⟩, ⟨h7, b7⟩, ⟨h16, b16⟩⟩, h18, h19, hp, hf0, hs, hst⟩ := id hX
  obtain ⟨⟨k100, k101, k105, k106⟩, ⟨k1a, k1b, k1c⟩, ⟨k0a, k0b, k0c⟩, hkm, hkk⟩ := id hK
  refine z_aload_n d_P_clear_0 rfl ?_
  refine z_get fa_P_25 d_P_clear_1 (cp_0 hA) rfl ?_
  refine z_cFi (c_sizeS l E hA _ _ _) cb_AL_size cf_size k_361 (cp_2 hA) rfl rfl (zlq rfl) rfl (zlq rfl) (zlq rfl) d_P_clear_4 ?_
  refine z_istore_n d_P_clear_9 (zlt rfl) ?_
  refine z_aload_n d_P_clear_10 rfl ?_
  refine z_iconst d_P_clear_11 ic_0 ?_
  refine z_put fp_P_66 d_P_clear_12 (cp_0 hA) (vp_nar_int _) rfl (zlt rfl) ?_
  refine z_eqh (cp_p0_1 hA) ?_
  refine z_aload_n d_P_clear_15 rfl ?_
  refine z_iconst d_P_clear_16 ic_0 ?_
  refine z_put fp_P_69 d_P_clear_17 (cp_0 hA) (vp_nar_int _) rfl (zlt rfl) ?_
  refine z_eqh (cp_p0_3 hA) ?_
  refine z_aload_n d_P_clear_20 rfl ?_
  refine z_iconst d_P_clear_21 ic_0 ?_
  refine z_put fp_P_44 d_P_clear_22 (cp_0 hA) (vp_nar_int _) rfl (zlt rfl) ?_
  refine z_eqh (cp_p0_6 hA) ?_
  refine z_aload_n d_P_clear_25 rfl ?_
  refine z_iconst d_P_clear_26 ic_0 ?_
  refine z_put fp_P_52 d_P_clear_27 (cp_0 hA) (vp_nar_int _) rfl (zlt rfl) ?_
  refine z_eqh (cp_p0_10 hA) ?_
  refine z_aload_n d_P_clear_30 rfl ?_
  refine z_get fa_P_25 d_P_clear_31 (cp_0 hA) rfl ?_
  refine z_cFv (c_clrS l E hA _ _ _ k0a k0b) cb_AL_clear cf_clear k_448 (cp_2 hA) rfl rfl (zlq rfl) rfl (zlq rfl) (zlq rfl) d_P_clear_34 ?_
  have hA := cIj_mono hA (fun _ r => cdm_kcS r)
  refine z_aload_n d_P_clear_39 rfl ?_
  refine z_get fa_P_29 d_P_clear_40 (cp_0 hA) rfl ?_
  refine z_cFv (c_clrB l E hA _ _ _ (show K 100 0 ≤ K 1 0 from k1a) (show K 1 0 ≤ 90 from k1b)) cb_AL_clear cf_clear k_448 (cp_4 hA) rfl rfl (zlq rfl) rfl (zlq rfl) (zlq rfl) d_P_clear_43 ?_
  have hA := cIj_mono hA (fun _ r => cdm_kcB r)
  refine z_aload_n d_P_clear_48 rfl ?_
  refine z_cVv (c_P_change l E hA _ _ _ (tClr Z).2) cb_P_change ci_P_change ln_P_76 (cp_0 hA) rfl rfl (zlq rfl) rfl (zlq rfl) (zlq rfl) d_P_clear_49 ?_
  have hA := cIj_mono hA (fun _ r => cdm_kz r)
  refine z_iload_n d_P_clear_52 rfl ?_
  exact z_iret rfl d_P_clear_53 (zlq rfl) (zlq rfl) (⟨by show some (Value.int (nI (K 101 0))) = some (Value.int (Z 7 0)); rw [k101, ← h7], cp_eqX (r20 rfl rfl rfl rfl rfl rfl rfl rfl rfl rfl rfl rfl rfl rfl rfl rfl rfl rfl rfl) (fun _ _ => rfl), hA⟩)
