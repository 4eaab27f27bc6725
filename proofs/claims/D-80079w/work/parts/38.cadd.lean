/-! the component: lists grow -/
theorem arr1 {n x : Nat} {g g0 : Nat → Nat} (h1 : g n = x) (h2 : ∀ i, i < n → g i = g0 i) : va_up (fun i => if i < n then some (g0 i) else none) n (some x) = fun i => if i < n + 1 then some (g i) else none := by
  funext i
  unfold va_up
  by_cases c : i = n
  · rw [if_pos c, if_pos (by omega), c, h1]
  · rw [if_neg c]
    dsimp only
    by_cases d : i < n
    · rw [if_pos d, if_pos (by omega), h2 i d]
    · rw [if_neg d, if_neg (by omega)]
theorem arr2 {n x : Nat} {g g0 : Nat → Nat} (h1 : g n = x) (h2 : ∀ i, i < n → g i = g0 i) : va_up (va_cpy (fun i => if i < n then some (g0 i) else none) (fun _ => none) 0 0 n) n (some x) = fun i => if i < n + 1 then some (g i) else none := by
  rw [← arr1 h1 h2]
  congr 1
  funext i
  unfold va_cpy
  by_cases d : i < n
  · rw [if_pos (by omega), if_pos d, Nat.sub_zero, Nat.zero_add]
    exact if_pos d
  · rw [if_neg (by omega), if_neg d]
theorem arr0 {x : Nat} {g : Nat → Nat} (h1 : g 0 = x) : va_up (fun _ => none) 0 (some x) = fun i => if i < 0 + 1 then some (g i) else none := by
  funext i
  unfold va_up
  by_cases c : i = 0
  · rw [if_pos c, if_pos (by omega), c, h1]
  · rw [if_neg c, if_neg (by omega)]
theorem ru_crl {A : rl → Nat} {k m q j i : Nat} (h : k ≠ 19 ∧ k ≠ 23 ∧ k ≠ 24 ∧ k ≠ 25) : ru A k m q (crl j, i) = A (crl j, i) := by
  refine ru_n (fun z => ?_)
  injection z with z1
  unfold crl at z1
  split at z1 <;> omega
abbrev rm_add : Room := { frames := 6, cells := 1, slots := 90, locals := 150 }
abbrev knB (K : Nat → Nat → Nat) (n cap : Nat) : Nat → Nat → Nat := (ku (ku (ku K 1 0 (cap)) 100 0 (n + 1)) 76 0 (K 76 0 + 1))
theorem cdm_knB {K : Nat → Nat → Nat} {n cap : Nat} (hc : K 1 0 ≠ 0 ∨ True) {r : rl} (hr : cdm (knB K n cap) r) (hs : r ≠ (5, 0)) : cdm K r := by
  obtain ⟨k, j⟩ := r
  unfold cdm at hr
  split at hr
  · rename_i q0; injection q0 with q1 q2; subst q1; subst q2
    exact hr
  · rename_i q0; injection q0 with q1 q2; subst q1; subst q2
    exact hr
  · rename_i q0; injection q0 with q1 q2; subst q1; subst q2
    exact hr
  · rename_i q0; injection q0 with q1 q2; subst q1; subst q2
    exact hr
  · rename_i q0; injection q0 with q1 q2; subst q1; subst q2
    exact hr
  · rename_i q0; injection q0 with q1 q2; subst q1; subst q2
    exact absurd (by rw [show j = 0 from hr.1]) hs
  · rename_i q0; injection q0 with q1 q2; subst q1; subst q2
    exact hr
  · rename_i q0; injection q0 with q1 q2; subst q1; subst q2
    exact hr
  · rename_i q0; injection q0 with q1 q2; subst q1; subst q2
    exact hr
  · rename_i q0; injection q0 with q1 q2; subst q1; subst q2
    exact hr
  · rename_i q0; injection q0 with q1 q2; subst q1; subst q2
    exact hr
  · rename_i q0; injection q0 with q1 q2; subst q1; subst q2
    exact hr
  · rename_i q0; injection q0 with q1 q2; subst q1; subst q2
    exact hr
  · rename_i q0; injection q0 with q1 q2; subst q1; subst q2
    exact hr
  · rename_i q0; injection q0 with q1 q2; subst q1; subst q2
    exact hr
  · rename_i q0; injection q0 with q1 q2; subst q1; subst q2
    exact hr
  · rename_i q0; injection q0 with q1 q2; subst q1; subst q2
    exact hr
  · rename_i q0; injection q0 with q1 q2; subst q1; subst q2
    exact hr
  · rename_i q0; injection q0 with q1 q2; subst q1; subst q2
    exact hr
  · rename_i q0; injection q0 with q1 q2; subst q1; subst q2
    exact hr
  · rename_i q0; injection q0 with q1 q2; subst q1; subst q2
    exact hr
  · rename_i q0; injection q0 with q1 q2; subst q1; subst q2
    exact hr
  · rename_i q0; injection q0 with q1 q2; subst q1; subst q2
    exact hr
  · rename_i q0; injection q0 with q1 q2; subst q1; subst q2
    exact hr
  · rename_i q0; injection q0 with q1 q2; subst q1; subst q2
    exact hr
  · rename_i q0; injection q0 with q1 q2; subst q1; subst q2
    exact hr
  · rename_i q0; injection q0 with q1 q2; subst q1; subst q2
    exact hr
  · rename_i q0; injection q0 with q1 q2; subst q1; subst q2
    exact hr
  · rename_i q0; injection q0 with q1 q2; subst q1; subst q2
    exact hr
  · rename_i q0; injection q0 with q1 q2; subst q1; subst q2
    exact hr
  · rename_i q0; injection q0 with q1 q2; subst q1; subst q2
    exact hr
  · exact hr.elim
set_option maxRecDepth 100000 in
theorem cp_addBR {E : zE} {A : rl → Nat} {K : Nat → Nat → Nat} (hA : cIj K A) {X S R : zSt}  (n : Nat) (hn : n = K 100 0) (hel : n < K 105 0) (hc : n < K 1 0) : zle (cp E A (knB K n (K 1 0)) X S R) (zpu (zpu (cp E A K X S R) (A (5, 0)) (zeO E (K 1 0) (va_up (fun i => if i < n then some (A (6, i)) else none) n (some (A (6, n)))))) (A (4, 0)) (zob 9 [.int (nI (K 76 0) + nI 1), .ref (A (5, 0)), .int (nI (n + 1))])) := by
  have dA : cdm K (5, 0) := ⟨rfl, by omega⟩
  have nla : A (5, 0) ≠ A (4, 0) := fun z => by have := hA _ _ dA (show cdm K (4, 0) from rfl) z; injection this with z1; exact absurd z1 (by decide)
  have f1 : (knB K n (K 1 0)) 1 0 = K 1 0 := by simp [ku]
  have f2 : (knB K n (K 1 0)) 100 0 = n + 1 := by simp [ku]
  have f3 : (knB K n (K 1 0)) 76 0 = K 76 0 + 1 := by simp [ku]
  refine cp_chg (X := X) (S := S) (R := R) hA (fun r => r = (4, 0) ∨ r = (5, 0)) (fun r hs _ => ?_) (fun r hs hd => ?_) (fun r hs hr => ?_)
  · rcases hs with rfl | rfl
    · rw [zpu_s]
      show some _ = some (zob 9 [.int (nI ((knB K n (K 1 0)) 76 0)), (if (knB K n (K 1 0)) 1 0 = 0 then .ref (zt0 E) else .ref (A (5, 0))), .int (nI ((knB K n (K 1 0)) 100 0))])
      rw [f1, f2, f3, if_neg (by omega), nI_add]
    · rw [zpu_n nla, zpu_s]
      show some _ = some (zeO E ((knB K n (K 1 0)) 1 0) (fun i => if i < (knB K n (K 1 0)) 100 0 then some (A (6, i)) else none))
      rw [f1, f2, arr1 (x := A (6, n)) (g := fun i => A (6, i)) (g0 := fun i => A (6, i)) rfl (fun i hi => rfl)]
  · rw [zpu_n (fun z => hs (Or.inl (hA _ _ hd (show cdm K (4, 0) from rfl) z))), zpu_n (fun z => hs (Or.inr (hA _ _ hd dA z)))]
  · have hne : r ≠ (5, 0) := fun z => hs (Or.inr z)
    have hnl : r ≠ (4, 0) := fun z => hs (Or.inl z)
    refine ⟨cdm_knB (Or.inr trivial) hr hne, rfl, ?_⟩
    obtain ⟨k, j⟩ := r
    unfold cdm at hr
    split at hr
    · rename_i q0; injection q0 with q1 q2; subst q1; subst q2
      exact (cct_k0 rfl rfl rfl rfl rfl rfl rfl rfl rfl rfl rfl rfl rfl rfl rfl rfl)
    · rename_i q0; injection q0 with q1 q2; subst q1; subst q2
      exact (cct_k1 rfl)
    · rename_i q0; injection q0 with q1 q2; subst q1; subst q2
      exact (cct_k2 rfl rfl rfl rfl)
    · rename_i q0; injection q0 with q1 q2; subst q1; subst q2
      exact (cct_k3 rfl rfl (fun _ _ => rfl))
    · rename_i q0; injection q0 with q1 q2; subst q1; subst q2
      exact absurd (by rw [show j = 0 from hr]) hnl
    · rename_i q0; injection q0 with q1 q2; subst q1; subst q2
      exact absurd (by rw [show j = 0 from hr.1]) hne
    · rename_i q0; injection q0 with q1 q2; subst q1; subst q2
      exact (cct_k6 rfl rfl rfl rfl)
    · rename_i q0; injection q0 with q1 q2; subst q1; subst q2
      exact (cct_k7 rfl rfl (fun _ _ => rfl))
    · rename_i q0; injection q0 with q1 q2; subst q1; subst q2
      exact (cct_k8 rfl rfl rfl rfl rfl rfl rfl rfl)
    · rename_i q0; injection q0 with q1 q2; subst q1; subst q2
      exact (cct_k9 rfl rfl rfl rfl rfl rfl rfl)
    · rename_i q0; injection q0 with q1 q2; subst q1; subst q2
      exact (cct_k10 rfl)
    · rename_i q0; injection q0 with q1 q2; subst q1; subst q2
      exact (cct_k11 rfl rfl)
    · rename_i q0; injection q0 with q1 q2; subst q1; subst q2
      exact (cct_k12 (fun _ => rfl))
    · rename_i q0; injection q0 with q1 q2; subst q1; subst q2
      exact (cct_k19 rfl rfl rfl rfl)
    · rename_i q0; injection q0 with q1 q2; subst q1; subst q2
      exact (cct_k20 rfl rfl)
    · rename_i q0; injection q0 with q1 q2; subst q1; subst q2
      exact (cct_k21 (fun _ => rfl))
    · rename_i q0; injection q0 with q1 q2; subst q1; subst q2
      exact (cct_k22 rfl rfl rfl)
    · rename_i q0; injection q0 with q1 q2; subst q1; subst q2
      exact (cct_k23 rfl rfl rfl)
    · rename_i q0; injection q0 with q1 q2; subst q1; subst q2
      exact (cct_k24 rfl rfl rfl)
    · rename_i q0; injection q0 with q1 q2; subst q1; subst q2
      exact (cct_k25 rfl rfl rfl)
    · rename_i q0; injection q0 with q1 q2; subst q1; subst q2
      exact (cct_k26 rfl rfl rfl rfl rfl rfl rfl)
    · rename_i q0; injection q0 with q1 q2; subst q1; subst q2
      exact (cct_k27 rfl rfl rfl rfl)
    · rename_i q0; injection q0 with q1 q2; subst q1; subst q2
      exact (cct_k28 rfl rfl (fun _ _ => rfl))
    · rename_i q0; injection q0 with q1 q2; subst q1; subst q2
      exact (cct_k29 rfl rfl)
    · rename_i q0; injection q0 with q1 q2; subst q1; subst q2
      exact (cct_k30 rfl (fun _ _ => rfl))
    · rename_i q0; injection q0 with q1 q2; subst q1; subst q2
      exact (cct_k31 (fun _ _ => rfl))
    · rename_i q0; injection q0 with q1 q2; subst q1; subst q2
      exact (cct_k32 rfl)
    · rename_i q0; injection q0 with q1 q2; subst q1; subst q2
      exact (cct_k33 rfl rfl rfl)
    · rename_i q0; injection q0 with q1 q2; subst q1; subst q2
      exact (cct_k34 (fun _ _ => rfl))
    · rename_i q0; injection q0 with q1 q2; subst q1; subst q2
      exact (cct_k35 rfl rfl rfl rfl)
    · rename_i q0; injection q0 with q1 q2; subst q1; subst q2
      exact (cct_k36 (fun _ _ => rfl))
    · exact hr.elim
set_option maxRecDepth 100000 in
theorem cp_addBG {E : zE} {A : rl → Nat} {K : Nat → Nat → Nat} (hA : cIj K A) {X S R : zSt}  (n : Nat) (hn : n = K 100 0) (hel : n < K 105 0) (hc : 10 ≤ n) (q : Nat) (hq : cp E A K X S R q = none) : zle (cp E (ru A 5 0 q) (knB K n (n + n / 2)) X S R) (zpu (zpu (cp E A K X S R) (q) (zeO E (n + n / 2) (va_up (va_cpy (fun i => if i < n then some (A (6, i)) else none) (fun _ => none) 0 0 n) n (some (A (6, n)))))) (A (4, 0)) (zob 9 [.int (nI (K 76 0) + nI 1), .ref (q), .int (nI (n + 1))])) := by
  have nla : q ≠ A (4, 0) := Ne.symm (cp_out hA hq (show cdm K (4, 0) from rfl))
  have f1 : (knB K n (n + n / 2)) 1 0 = n + n / 2 := by simp [ku]
  have f2 : (knB K n (n + n / 2)) 100 0 = n + 1 := by simp [ku]
  have f3 : (knB K n (n + n / 2)) 76 0 = K 76 0 + 1 := by simp [ku]
  refine cp_chg (X := X) (S := S) (R := R) hA (fun r => r = (4, 0) ∨ r = (5, 0)) (fun r hs _ => ?_) (fun r hs hd => ?_) (fun r hs hr => ?_)
  · rcases hs with rfl | rfl
    · rw [show (ru A 5 0 q) (4, 0) = A (4, 0) from ru_n (fun z => by injection z with z1; exact absurd z1 (by decide)), zpu_s]
      show some _ = some (zob 9 [.int (nI ((knB K n (n + n / 2)) 76 0)), (if (knB K n (n + n / 2)) 1 0 = 0 then .ref (zt0 E) else .ref ((ru A 5 0 q) (5, 0))), .int (nI ((knB K n (n + n / 2)) 100 0))])
      rw [f1, f2, f3, if_neg (by omega), nI_add, ru_s]
    · rw [ru_s, zpu_n nla, zpu_s]
      show some _ = some (zeO E ((knB K n (n + n / 2)) 1 0) (fun i => if i < (knB K n (n + n / 2)) 100 0 then some ((ru A 5 0 q) (6, i)) else none))
      rw [f1, f2, arr2 (x := A (6, n)) (g := fun i => (ru A 5 0 q) (6, i)) (g0 := fun i => A (6, i)) rfl (fun i hi => rfl)]
  · rw [zpu_n (fun z => hs (Or.inl (hA _ _ hd (show cdm K (4, 0) from rfl) z))), zpu_n (cp_out hA hq hd)]
  · have hne : r ≠ (5, 0) := fun z => hs (Or.inr z)
    have hnl : r ≠ (4, 0) := fun z => hs (Or.inl z)
    refine ⟨cdm_knB (Or.inr trivial) hr hne, ru_n hne, ?_⟩
    obtain ⟨k, j⟩ := r
    unfold cdm at hr
    split at hr
    · rename_i q0; injection q0 with q1 q2; subst q1; subst q2
      exact (cct_k0 rfl rfl rfl rfl rfl rfl rfl rfl rfl rfl rfl rfl rfl rfl rfl rfl)
    · rename_i q0; injection q0 with q1 q2; subst q1; subst q2
      exact (cct_k1 rfl)
    · rename_i q0; injection q0 with q1 q2; subst q1; subst q2
      exact (cct_k2 rfl rfl rfl rfl)
    · rename_i q0; injection q0 with q1 q2; subst q1; subst q2
      exact (cct_k3 rfl rfl (fun _ _ => rfl))
    · rename_i q0; injection q0 with q1 q2; subst q1; subst q2
      exact absurd (by rw [show j = 0 from hr]) hnl
    · rename_i q0; injection q0 with q1 q2; subst q1; subst q2
      exact absurd (by rw [show j = 0 from hr.1]) hne
    · rename_i q0; injection q0 with q1 q2; subst q1; subst q2
      exact (cct_k6 rfl rfl rfl rfl)
    · rename_i q0; injection q0 with q1 q2; subst q1; subst q2
      exact (cct_k7 rfl rfl (fun _ _ => rfl))
    · rename_i q0; injection q0 with q1 q2; subst q1; subst q2
      exact (cct_k8 rfl rfl rfl rfl rfl rfl rfl rfl)
    · rename_i q0; injection q0 with q1 q2; subst q1; subst q2
      exact (cct_k9 rfl rfl rfl rfl rfl rfl rfl)
    · rename_i q0; injection q0 with q1 q2; subst q1; subst q2
      exact (cct_k10 rfl)
    · rename_i q0; injection q0 with q1 q2; subst q1; subst q2
      exact (cct_k11 rfl rfl)
    · rename_i q0; injection q0 with q1 q2; subst q1; subst q2
      exact (cct_k12 (fun _ => ru_crl (by decide)))
    · rename_i q0; injection q0 with q1 q2; subst q1; subst q2
      exact (cct_k19 rfl rfl rfl rfl)
    · rename_i q0; injection q0 with q1 q2; subst q1; subst q2
      exact (cct_k20 rfl rfl)
    · rename_i q0; injection q0 with q1 q2; subst q1; subst q2
      exact (cct_k21 (fun _ => rfl))
    · rename_i q0; injection q0 with q1 q2; subst q1; subst q2
      exact (cct_k22 rfl rfl rfl)
    · rename_i q0; injection q0 with q1 q2; subst q1; subst q2
      exact (cct_k23 rfl rfl rfl)
    · rename_i q0; injection q0 with q1 q2; subst q1; subst q2
      exact (cct_k24 rfl rfl rfl)
    · rename_i q0; injection q0 with q1 q2; subst q1; subst q2
      exact (cct_k25 rfl rfl rfl)
    · rename_i q0; injection q0 with q1 q2; subst q1; subst q2
      exact (cct_k26 rfl rfl rfl rfl rfl rfl rfl)
    · rename_i q0; injection q0 with q1 q2; subst q1; subst q2
      exact (cct_k27 rfl rfl rfl rfl)
    · rename_i q0; injection q0 with q1 q2; subst q1; subst q2
      exact (cct_k28 rfl rfl (fun _ _ => rfl))
    · rename_i q0; injection q0 with q1 q2; subst q1; subst q2
      exact (cct_k29 rfl rfl)
    · rename_i q0; injection q0 with q1 q2; subst q1; subst q2
      exact (cct_k30 rfl (fun _ _ => rfl))
    · rename_i q0; injection q0 with q1 q2; subst q1; subst q2
      exact (cct_k31 (fun _ _ => rfl))
    · rename_i q0; injection q0 with q1 q2; subst q1; subst q2
      exact (cct_k32 rfl)
    · rename_i q0; injection q0 with q1 q2; subst q1; subst q2
      exact (cct_k33 rfl rfl rfl)
    · rename_i q0; injection q0 with q1 q2; subst q1; subst q2
      exact (cct_k34 (fun _ _ => rfl))
    · rename_i q0; injection q0 with q1 q2; subst q1; subst q2
      exact (cct_k35 rfl rfl rfl rfl)
    · rename_i q0; injection q0 with q1 q2; subst q1; subst q2
      exact (cct_k36 (fun _ _ => rfl))
    · exact hr.elim
set_option maxRecDepth 100000 in
theorem cp_addBE {E : zE} {A : rl → Nat} {K : Nat → Nat → Nat} (hA : cIj K A) {X S R : zSt}  (n : Nat) (hn : n = K 100 0) (hel : n < K 105 0) (hz : n = 0) (q : Nat) (hq : cp E A K X S R q = none) : zle (cp E (ru A 5 0 q) (knB K n (10)) X S R) (zpu (zpu (cp E A K X S R) (q) (zeO E (10) (va_up (fun _ => none) 0 (some (A (6, n)))))) (A (4, 0)) (zob 9 [.int (nI (K 76 0) + nI 1), .ref (q), .int (nI (0 + 1))])) := by
  subst hz
  have nla : q ≠ A (4, 0) := Ne.symm (cp_out hA hq (show cdm K (4, 0) from rfl))
  have f1 : (knB K 0 (10)) 1 0 = 10 := by simp [ku]
  have f2 : (knB K 0 (10)) 100 0 = 0 + 1 := by simp [ku]
  have f3 : (knB K 0 (10)) 76 0 = K 76 0 + 1 := by simp [ku]
  refine cp_chg (X := X) (S := S) (R := R) hA (fun r => r = (4, 0) ∨ r = (5, 0)) (fun r hs _ => ?_) (fun r hs hd => ?_) (fun r hs hr => ?_)
  · rcases hs with rfl | rfl
    · rw [show (ru A 5 0 q) (4, 0) = A (4, 0) from ru_n (fun z => by injection z with z1; exact absurd z1 (by decide)), zpu_s]
      show some _ = some (zob 9 [.int (nI ((knB K 0 (10)) 76 0)), (if (knB K 0 (10)) 1 0 = 0 then .ref (zt0 E) else .ref ((ru A 5 0 q) (5, 0))), .int (nI ((knB K 0 (10)) 100 0))])
      rw [f1, f2, f3, if_neg (by omega), nI_add, ru_s]
    · rw [ru_s, zpu_n nla, zpu_s]
      show some _ = some (zeO E ((knB K 0 (10)) 1 0) (fun i => if i < (knB K 0 (10)) 100 0 then some ((ru A 5 0 q) (6, i)) else none))
      rw [f1, f2, arr0 (x := A (6, 0)) (g := fun i => (ru A 5 0 q) (6, i)) rfl]
  · rw [zpu_n (fun z => hs (Or.inl (hA _ _ hd (show cdm K (4, 0) from rfl) z))), zpu_n (cp_out hA hq hd)]
  · have hne : r ≠ (5, 0) := fun z => hs (Or.inr z)
    have hnl : r ≠ (4, 0) := fun z => hs (Or.inl z)
    refine ⟨cdm_knB (Or.inr trivial) hr hne, ru_n hne, ?_⟩
    obtain ⟨k, j⟩ := r
    unfold cdm at hr
    split at hr
    · rename_i q0; injection q0 with q1 q2; subst q1; subst q2
      exact (cct_k0 rfl rfl rfl rfl rfl rfl rfl rfl rfl rfl rfl rfl rfl rfl rfl rfl)
    · rename_i q0; injection q0 with q1 q2; subst q1; subst q2
      exact (cct_k1 rfl)
    · rename_i q0; injection q0 with q1 q2; subst q1; subst q2
      exact (cct_k2 rfl rfl rfl rfl)
    · rename_i q0; injection q0 with q1 q2; subst q1; subst q2
      exact (cct_k3 rfl rfl (fun _ _ => rfl))
    · rename_i q0; injection q0 with q1 q2; subst q1; subst q2
      exact absurd (by rw [show j = 0 from hr]) hnl
    · rename_i q0; injection q0 with q1 q2; subst q1; subst q2
      exact absurd (by rw [show j = 0 from hr.1]) hne
    · rename_i q0; injection q0 with q1 q2; subst q1; subst q2
      exact (cct_k6 rfl rfl rfl rfl)
    · rename_i q0; injection q0 with q1 q2; subst q1; subst q2
      exact (cct_k7 rfl rfl (fun _ _ => rfl))
    · rename_i q0; injection q0 with q1 q2; subst q1; subst q2
      exact (cct_k8 rfl rfl rfl rfl rfl rfl rfl rfl)
    · rename_i q0; injection q0 with q1 q2; subst q1; subst q2
      exact (cct_k9 rfl rfl rfl rfl rfl rfl rfl)
    · rename_i q0; injection q0 with q1 q2; subst q1; subst q2
      exact (cct_k10 rfl)
    · rename_i q0; injection q0 with q1 q2; subst q1; subst q2
      exact (cct_k11 rfl rfl)
    · rename_i q0; injection q0 with q1 q2; subst q1; subst q2
      exact (cct_k12 (fun _ => ru_crl (by decide)))
    · rename_i q0; injection q0 with q1 q2; subst q1; subst q2
      exact (cct_k19 rfl rfl rfl rfl)
    · rename_i q0; injection q0 with q1 q2; subst q1; subst q2
      exact (cct_k20 rfl rfl)
    · rename_i q0; injection q0 with q1 q2; subst q1; subst q2
      exact (cct_k21 (fun _ => rfl))
    · rename_i q0; injection q0 with q1 q2; subst q1; subst q2
      exact (cct_k22 rfl rfl rfl)
    · rename_i q0; injection q0 with q1 q2; subst q1; subst q2
      exact (cct_k23 rfl rfl rfl)
    · rename_i q0; injection q0 with q1 q2; subst q1; subst q2
      exact (cct_k24 rfl rfl rfl)
    · rename_i q0; injection q0 with q1 q2; subst q1; subst q2
      exact (cct_k25 rfl rfl rfl)
    · rename_i q0; injection q0 with q1 q2; subst q1; subst q2
      exact (cct_k26 rfl rfl rfl rfl rfl rfl rfl)
    · rename_i q0; injection q0 with q1 q2; subst q1; subst q2
      exact (cct_k27 rfl rfl rfl rfl)
    · rename_i q0; injection q0 with q1 q2; subst q1; subst q2
      exact (cct_k28 rfl rfl (fun _ _ => rfl))
    · rename_i q0; injection q0 with q1 q2; subst q1; subst q2
      exact (cct_k29 rfl rfl)
    · rename_i q0; injection q0 with q1 q2; subst q1; subst q2
      exact (cct_k30 rfl (fun _ _ => rfl))
    · rename_i q0; injection q0 with q1 q2; subst q1; subst q2
      exact (cct_k31 (fun _ _ => rfl))
    · rename_i q0; injection q0 with q1 q2; subst q1; subst q2
      exact (cct_k32 rfl)
    · rename_i q0; injection q0 with q1 q2; subst q1; subst q2
      exact (cct_k33 rfl rfl rfl)
    · rename_i q0; injection q0 with q1 q2; subst q1; subst q2
      exact (cct_k34 (fun _ _ => rfl))
    · rename_i q0; injection q0 with q1 q2; subst q1; subst q2
      exact (cct_k35 rfl rfl rfl rfl)
    · rename_i q0; injection q0 with q1 q2; subst q1; subst q2
      exact (cct_k36 (fun _ _ => rfl))
    · exact hr.elim
theorem c_addB (l : Launch) (E : zE) {A : rl → Nat} {K : Nat → Nat → Nat} (hA : cIj K A) (X S R : zSt)  (n : Nat) (hn : n = K 100 0) (h1 : n ≤ K 1 0) (h2 : K 1 0 ≤ 90) (h2n : n ≤ 60) (h3 : K 1 0 = 0 ∨ 10 ≤ K 1 0) (hel : n < K 105 0) : zM l E y_AL_add0 b_AL_add0 2 (some .boolean) rm_add [.ref (A (4, 0)), .ref (A (6, n))] (cp E A K X S R) (fun v h' => v = some (.int (nI 1)) ∧ ∃ A' cap, cIj (knB K n (cap)) A' ∧ (∀ r, r ≠ (5, 0) → A' r = A r) ∧ n + 1 ≤ cap ∧ cap ≤ 90 ∧ 10 ≤ cap ∧ h' = cp E A' (knB K n (cap)) X S R) := by
  have hx : zel (cp E A K X S R) (A (6, n)) := ⟨9, _, (R_AL, F_AL, 3), (cp_6 hA (j := n) (by omega)), rfl, k_1159⟩
  have eL := (cp_4 (E := E) (X := X) (S := S) (R := R) hA)
  by_cases hz : K 1 0 = 0
  · have hn0 : n = 0 := by omega
    rw [show car E A K 5 1 0 0 = .ref (zt0 E) from if_pos hz, ← hn, hn0] at eL
    refine zM_cs (c_AL_addE l E _ _ _ _ eL hx) (zlq rfl) (zlq rfl) (zlq rfl) (zlq rfl) (fun v h' hv => ?_)
    obtain ⟨rfl, q, hq, rfl⟩ := hv
    exact ⟨_, cp_addBE hA n hn hel hn0 q hq, rfl, _, 10, cIj_new hA hq (fun r hr hs => cdm_knB (Or.inr trivial) hr hs), fun r hr => ru_n hr, by omega, by omega, by omega, rfl⟩
  · rw [show car E A K 5 1 0 0 = .ref (A (5, 0)) from if_neg hz, ← hn] at eL
    have eA := (cp_5 (E := E) (X := X) (S := S) (R := R) hA hz)
    rw [← hn] at eA
    by_cases hc : n < K 1 0
    · refine zM_cs (c_AL_addR l E _ _ _ _ _ _ _ _ eL eA hc (by omega) hx) (zlq rfl) (zlq rfl) (zlq rfl) (zlq rfl) (fun v h' hv => ?_)
      obtain ⟨rfl, rfl⟩ := hv
      exact ⟨_, cp_addBR hA n hn hel hc, rfl, A, _, cIj_mono hA (fun r hr => by
        by_cases hs : r = (5, 0)
        · rw [hs]; exact ⟨rfl, hz⟩
        · exact cdm_knB (Or.inr trivial) hr hs), fun r hr => rfl, hc, by omega, by omega, rfl⟩
    · have hcn : K 1 0 = n := by omega
      rw [hcn] at eA
      refine zM_cs (c_AL_addG l E _ _ _ _ _ _ _ eL eA (by omega) (by omega) (fun i hi y hy => ?_) hx) (zlq rfl) (zlq rfl) (by show n + n / 2 ≤ 90; omega) (zlq rfl) (fun v h' hv => ?_)
      · rw [if_pos hi] at hy
        cases hy
        exact ⟨9, _, (R_AL, F_AL, 3), (cp_6 hA (j := i) (by omega)), rfl, k_1159⟩
      · obtain ⟨rfl, q, hq, rfl⟩ := hv
        exact ⟨_, cp_addBG hA n hn hel (by omega) q hq, rfl, _, n + n / 2, cIj_new hA hq (fun r hr hs => cdm_knB (Or.inr trivial) hr hs), fun r hr => ru_n hr, by omega, by omega, by omega, rfl⟩
abbrev knS (K : Nat → Nat → Nat) (n cap : Nat) : Nat → Nat → Nat := (ku (ku (ku K 0 0 (cap)) 101 0 (n + 1)) 75 0 (K 75 0 + 1))
theorem cdm_knS {K : Nat → Nat → Nat} {n cap : Nat} (hc : K 0 0 ≠ 0 ∨ True) {r : rl} (hr : cdm (knS K n cap) r) (hs : r ≠ (3, 0)) : cdm K r := by
  obtain ⟨k, j⟩ := r
  unfold cdm at hr
  split at hr
  · rename_i q0; injection q0 with q1 q2; subst q1; subst q2
    exact hr
  · rename_i q0; injection q0 with q1 q2; subst q1; subst q2
    exact hr
  · rename_i q0; injection q0 with q1 q2; subst q1; subst q2
    exact hr
  · rename_i q0; injection q0 with q1 q2; subst q1; subst q2
    exact absurd (by rw [show j = 0 from hr.1]) hs
  · rename_i q0; injection q0 with q1 q2; subst q1; subst q2
    exact hr
  · rename_i q0; injection q0 with q1 q2; subst q1; subst q2
    exact hr
  · rename_i q0; injection q0 with q1 q2; subst q1; subst q2
    exact hr
  · rename_i q0; injection q0 with q1 q2; subst q1; subst q2
    exact hr
  · rename_i q0; injection q0 with q1 q2; subst q1; subst q2
    exact hr
  · rename_i q0; injection q0 with q1 q2; subst q1; subst q2
    exact hr
  · rename_i q0; injection q0 with q1 q2; subst q1; subst q2
    exact hr
  · rename_i q0; injection q0 with q1 q2; subst q1; subst q2
    exact hr
  · rename_i q0; injection q0 with q1 q2; subst q1; subst q2
    exact hr
  · rename_i q0; injection q0 with q1 q2; subst q1; subst q2
    exact hr
  · rename_i q0; injection q0 with q1 q2; subst q1; subst q2
    exact hr
  · rename_i q0; injection q0 with q1 q2; subst q1; subst q2
    exact hr
  · rename_i q0; injection q0 with q1 q2; subst q1; subst q2
    exact hr
  · rename_i q0; injection q0 with q1 q2; subst q1; subst q2
    exact hr
  · rename_i q0; injection q0 with q1 q2; subst q1; subst q2
    exact hr
  · rename_i q0; injection q0 with q1 q2; subst q1; subst q2
    exact hr
  · rename_i q0; injection q0 with q1 q2; subst q1; subst q2
    exact hr
  · rename_i q0; injection q0 with q1 q2; subst q1; subst q2
    exact hr
  · rename_i q0; injection q0 with q1 q2; subst q1; subst q2
    exact hr
  · rename_i q0; injection q0 with q1 q2; subst q1; subst q2
    exact hr
  · rename_i q0; injection q0 with q1 q2; subst q1; subst q2
    exact hr
  · rename_i q0; injection q0 with q1 q2; subst q1; subst q2
    exact hr
  · rename_i q0; injection q0 with q1 q2; subst q1; subst q2
    exact hr
  · rename_i q0; injection q0 with q1 q2; subst q1; subst q2
    exact hr
  · rename_i q0; injection q0 with q1 q2; subst q1; subst q2
    exact hr
  · rename_i q0; injection q0 with q1 q2; subst q1; subst q2
    exact hr
  · rename_i q0; injection q0 with q1 q2; subst q1; subst q2
    exact hr
  · exact hr.elim
set_option maxRecDepth 100000 in
theorem cp_addSR {E : zE} {A : rl → Nat} {K : Nat → Nat → Nat} (hA : cIj K A) {X S R : zSt}  (n : Nat) (hn : n = K 101 0) (hel : n < K 106 0) (hc : n < K 0 0) : zle (cp E A (knS K n (K 0 0)) X S R) (zpu (zpu (cp E A K X S R) (A (3, 0)) (zeO E (K 0 0) (va_up (fun i => if i < n then some (A (8, i)) else none) n (some (A (8, n)))))) (A (2, 0)) (zob 9 [.int (nI (K 75 0) + nI 1), .ref (A (3, 0)), .int (nI (n + 1))])) := by
  have dA : cdm K (3, 0) := ⟨rfl, by omega⟩
  have nla : A (3, 0) ≠ A (2, 0) := fun z => by have := hA _ _ dA (show cdm K (2, 0) from rfl) z; injection this with z1; exact absurd z1 (by decide)
  have f1 : (knS K n (K 0 0)) 0 0 = K 0 0 := by simp [ku]
  have f2 : (knS K n (K 0 0)) 101 0 = n + 1 := by simp [ku]
  have f3 : (knS K n (K 0 0)) 75 0 = K 75 0 + 1 := by simp [ku]
  refine cp_chg (X := X) (S := S) (R := R) hA (fun r => r = (2, 0) ∨ r = (3, 0)) (fun r hs _ => ?_) (fun r hs hd => ?_) (fun r hs hr => ?_)
  · rcases hs with rfl | rfl
    · rw [zpu_s]
      show some _ = some (zob 9 [.int (nI ((knS K n (K 0 0)) 75 0)), (if (knS K n (K 0 0)) 0 0 = 0 then .ref (zt0 E) else .ref (A (3, 0))), .int (nI ((knS K n (K 0 0)) 101 0))])
      rw [f1, f2, f3, if_neg (by omega), nI_add]
    · rw [zpu_n nla, zpu_s]
      show some _ = some (zeO E ((knS K n (K 0 0)) 0 0) (fun i => if i < (knS K n (K 0 0)) 101 0 then some (A (8, i)) else none))
      rw [f1, f2, arr1 (x := A (8, n)) (g := fun i => A (8, i)) (g0 := fun i => A (8, i)) rfl (fun i hi => rfl)]
  · rw [zpu_n (fun z => hs (Or.inl (hA _ _ hd (show cdm K (2, 0) from rfl) z))), zpu_n (fun z => hs (Or.inr (hA _ _ hd dA z)))]
  · have hne : r ≠ (3, 0) := fun z => hs (Or.inr z)
    have hnl : r ≠ (2, 0) := fun z => hs (Or.inl z)
    refine ⟨cdm_knS (Or.inr trivial) hr hne, rfl, ?_⟩
    obtain ⟨k, j⟩ := r
    unfold cdm at hr
    split at hr
    · rename_i q0; injection q0 with q1 q2; subst q1; subst q2
      exact (cct_k0 rfl rfl rfl rfl rfl rfl rfl rfl rfl rfl rfl rfl rfl rfl rfl rfl)
    · rename_i q0; injection q0 with q1 q2; subst q1; subst q2
      exact (cct_k1 rfl)
    · rename_i q0; injection q0 with q1 q2; subst q1; subst q2
      exact absurd (by rw [show j = 0 from hr]) hnl
    · rename_i q0; injection q0 with q1 q2; subst q1; subst q2
      exact absurd (by rw [show j = 0 from hr.1]) hne
    · rename_i q0; injection q0 with q1 q2; subst q1; subst q2
      exact (cct_k4 rfl rfl rfl rfl)
    · rename_i q0; injection q0 with q1 q2; subst q1; subst q2
      exact (cct_k5 rfl rfl (fun _ _ => rfl))
    · rename_i q0; injection q0 with q1 q2; subst q1; subst q2
      exact (cct_k6 rfl rfl rfl rfl)
    · rename_i q0; injection q0 with q1 q2; subst q1; subst q2
      exact (cct_k7 rfl rfl (fun _ _ => rfl))
    · rename_i q0; injection q0 with q1 q2; subst q1; subst q2
      exact (cct_k8 rfl rfl rfl rfl rfl rfl rfl rfl)
    · rename_i q0; injection q0 with q1 q2; subst q1; subst q2
      exact (cct_k9 rfl rfl rfl rfl rfl rfl rfl)
    · rename_i q0; injection q0 with q1 q2; subst q1; subst q2
      exact (cct_k10 rfl)
    · rename_i q0; injection q0 with q1 q2; subst q1; subst q2
      exact (cct_k11 rfl rfl)
    · rename_i q0; injection q0 with q1 q2; subst q1; subst q2
      exact (cct_k12 (fun _ => rfl))
    · rename_i q0; injection q0 with q1 q2; subst q1; subst q2
      exact (cct_k19 rfl rfl rfl rfl)
    · rename_i q0; injection q0 with q1 q2; subst q1; subst q2
      exact (cct_k20 rfl rfl)
    · rename_i q0; injection q0 with q1 q2; subst q1; subst q2
      exact (cct_k21 (fun _ => rfl))
    · rename_i q0; injection q0 with q1 q2; subst q1; subst q2
      exact (cct_k22 rfl rfl rfl)
    · rename_i q0; injection q0 with q1 q2; subst q1; subst q2
      exact (cct_k23 rfl rfl rfl)
    · rename_i q0; injection q0 with q1 q2; subst q1; subst q2
      exact (cct_k24 rfl rfl rfl)
    · rename_i q0; injection q0 with q1 q2; subst q1; subst q2
      exact (cct_k25 rfl rfl rfl)
    · rename_i q0; injection q0 with q1 q2; subst q1; subst q2
      exact (cct_k26 rfl rfl rfl rfl rfl rfl rfl)
    · rename_i q0; injection q0 with q1 q2; subst q1; subst q2
      exact (cct_k27 rfl rfl rfl rfl)
    · rename_i q0; injection q0 with q1 q2; subst q1; subst q2
      exact (cct_k28 rfl rfl (fun _ _ => rfl))
    · rename_i q0; injection q0 with q1 q2; subst q1; subst q2
      exact (cct_k29 rfl rfl)
    · rename_i q0; injection q0 with q1 q2; subst q1; subst q2
      exact (cct_k30 rfl (fun _ _ => rfl))
    · rename_i q0; injection q0 with q1 q2; subst q1; subst q2
      exact (cct_k31 (fun _ _ => rfl))
    · rename_i q0; injection q0 with q1 q2; subst q1; subst q2
      exact (cct_k32 rfl)
    · rename_i q0; injection q0 with q1 q2; subst q1; subst q2
      exact (cct_k33 rfl rfl rfl)
    · rename_i q0; injection q0 with q1 q2; subst q1; subst q2
      exact (cct_k34 (fun _ _ => rfl))
    · rename_i q0; injection q0 with q1 q2; subst q1; subst q2
      exact (cct_k35 rfl rfl rfl rfl)
    · rename_i q0; injection q0 with q1 q2; subst q1; subst q2
      exact (cct_k36 (fun _ _ => rfl))
    · exact hr.elim
set_option maxRecDepth 100000 in
theorem cp_addSG {E : zE} {A : rl → Nat} {K : Nat → Nat → Nat} (hA : cIj K A) {X S R : zSt}  (n : Nat) (hn : n = K 101 0) (hel : n < K 106 0) (hc : 10 ≤ n) (q : Nat) (hq : cp E A K X S R q = none) : zle (cp E (ru A 3 0 q) (knS K n (n + n / 2)) X S R) (zpu (zpu (cp E A K X S R) (q) (zeO E (n + n / 2) (va_up (va_cpy (fun i => if i < n then some (A (8, i)) else none) (fun _ => none) 0 0 n) n (some (A (8, n)))))) (A (2, 0)) (zob 9 [.int (nI (K 75 0) + nI 1), .ref (q), .int (nI (n + 1))])) := by
  have nla : q ≠ A (2, 0) := Ne.symm (cp_out hA hq (show cdm K (2, 0) from rfl))
  have f1 : (knS K n (n + n / 2)) 0 0 = n + n / 2 := by simp [ku]
  have f2 : (knS K n (n + n / 2)) 101 0 = n + 1 := by simp [ku]
  have f3 : (knS K n (n + n / 2)) 75 0 = K 75 0 + 1 := by simp [ku]
  refine cp_chg (X := X) (S := S) (R := R) hA (fun r => r = (2, 0) ∨ r = (3, 0)) (fun r hs _ => ?_) (fun r hs hd => ?_) (fun r hs hr => ?_)
  · rcases hs with rfl | rfl
    · rw [show (ru A 3 0 q) (2, 0) = A (2, 0) from ru_n (fun z => by injection z with z1; exact absurd z1 (by decide)), zpu_s]
      show some _ = some (zob 9 [.int (nI ((knS K n (n + n / 2)) 75 0)), (if (knS K n (n + n / 2)) 0 0 = 0 then .ref (zt0 E) else .ref ((ru A 3 0 q) (3, 0))), .int (nI ((knS K n (n + n / 2)) 101 0))])
      rw [f1, f2, f3, if_neg (by omega), nI_add, ru_s]
    · rw [ru_s, zpu_n nla, zpu_s]
      show some _ = some (zeO E ((knS K n (n + n / 2)) 0 0) (fun i => if i < (knS K n (n + n / 2)) 101 0 then some ((ru A 3 0 q) (8, i)) else none))
      rw [f1, f2, arr2 (x := A (8, n)) (g := fun i => (ru A 3 0 q) (8, i)) (g0 := fun i => A (8, i)) rfl (fun i hi => rfl)]
  · rw [zpu_n (fun z => hs (Or.inl (hA _ _ hd (show cdm K (2, 0) from rfl) z))), zpu_n (cp_out hA hq hd)]
  · have hne : r ≠ (3, 0) := fun z => hs (Or.inr z)
    have hnl : r ≠ (2, 0) := fun z => hs (Or.inl z)
    refine ⟨cdm_knS (Or.inr trivial) hr hne, ru_n hne, ?_⟩
    obtain ⟨k, j⟩ := r
    unfold cdm at hr
    split at hr
    · rename_i q0; injection q0 with q1 q2; subst q1; subst q2
      exact (cct_k0 rfl rfl rfl rfl rfl rfl rfl rfl rfl rfl rfl rfl rfl rfl rfl rfl)
    · rename_i q0; injection q0 with q1 q2; subst q1; subst q2
      exact (cct_k1 rfl)
    · rename_i q0; injection q0 with q1 q2; subst q1; subst q2
      exact absurd (by rw [show j = 0 from hr]) hnl
    · rename_i q0; injection q0 with q1 q2; subst q1; subst q2
      exact absurd (by rw [show j = 0 from hr.1]) hne
    · rename_i q0; injection q0 with q1 q2; subst q1; subst q2
      exact (cct_k4 rfl rfl rfl rfl)
    · rename_i q0; injection q0 with q1 q2; subst q1; subst q2
      exact (cct_k5 rfl rfl (fun _ _ => rfl))
    · rename_i q0; injection q0 with q1 q2; subst q1; subst q2
      exact (cct_k6 rfl rfl rfl rfl)
    · rename_i q0; injection q0 with q1 q2; subst q1; subst q2
      exact (cct_k7 rfl rfl (fun _ _ => rfl))
    · rename_i q0; injection q0 with q1 q2; subst q1; subst q2
      exact (cct_k8 rfl rfl rfl rfl rfl rfl rfl rfl)
    · rename_i q0; injection q0 with q1 q2; subst q1; subst q2
      exact (cct_k9 rfl rfl rfl rfl rfl rfl rfl)
    · rename_i q0; injection q0 with q1 q2; subst q1; subst q2
      exact (cct_k10 rfl)
    · rename_i q0; injection q0 with q1 q2; subst q1; subst q2
      exact (cct_k11 rfl rfl)
    · rename_i q0; injection q0 with q1 q2; subst q1; subst q2
      exact (cct_k12 (fun _ => ru_crl (by decide)))
    · rename_i q0; injection q0 with q1 q2; subst q1; subst q2
      exact (cct_k19 rfl rfl rfl rfl)
    · rename_i q0; injection q0 with q1 q2; subst q1; subst q2
      exact (cct_k20 rfl rfl)
    · rename_i q0; injection q0 with q1 q2; subst q1; subst q2
      exact (cct_k21 (fun _ => rfl))
    · rename_i q0; injection q0 with q1 q2; subst q1; subst q2
      exact (cct_k22 rfl rfl rfl)
    · rename_i q0; injection q0 with q1 q2; subst q1; subst q2
      exact (cct_k23 rfl rfl rfl)
    · rename_i q0; injection q0 with q1 q2; subst q1; subst q2
      exact (cct_k24 rfl rfl rfl)
    · rename_i q0; injection q0 with q1 q2; subst q1; subst q2
      exact (cct_k25 rfl rfl rfl)
    · rename_i q0; injection q0 with q1 q2; subst q1; subst q2
      exact (cct_k26 rfl rfl rfl rfl rfl rfl rfl)
    · rename_i q0; injection q0 with q1 q2; subst q1; subst q2
      exact (cct_k27 rfl rfl rfl rfl)
    · rename_i q0; injection q0 with q1 q2; subst q1; subst q2
      exact (cct_k28 rfl rfl (fun _ _ => rfl))
    · rename_i q0; injection q0 with q1 q2; subst q1; subst q2
      exact (cct_k29 rfl rfl)
    · rename_i q0; injection q0 with q1 q2; subst q1; subst q2
      exact (cct_k30 rfl (fun _ _ => rfl))
    · rename_i q0; injection q0 with q1 q2; subst q1; subst q2
      exact (cct_k31 (fun _ _ => rfl))
    · rename_i q0; injection q0 with q1 q2; subst q1; subst q2
      exact (cct_k32 rfl)
    · rename_i q0; injection q0 with q1 q2; subst q1; subst q2
      exact (cct_k33 rfl rfl rfl)
    · rename_i q0; injection q0 with q1 q2; subst q1; subst q2
      exact (cct_k34 (fun _ _ => rfl))
    · rename_i q0; injection q0 with q1 q2; subst q1; subst q2
      exact (cct_k35 rfl rfl rfl rfl)
    · rename_i q0; injection q0 with q1 q2; subst q1; subst q2
      exact (cct_k36 (fun _ _ => rfl))
    · exact hr.elim
set_option maxRecDepth 100000 in
theorem cp_addSE {E : zE} {A : rl → Nat} {K : Nat → Nat → Nat} (hA : cIj K A) {X S R : zSt}  (n : Nat) (hn : n = K 101 0) (hel : n < K 106 0) (hz : n = 0) (q : Nat) (hq : cp E A K X S R q = none) : zle (cp E (ru A 3 0 q) (knS K n (10)) X S R) (zpu (zpu (cp E A K X S R) (q) (zeO E (10) (va_up (fun _ => none) 0 (some (A (8, n)))))) (A (2, 0)) (zob 9 [.int (nI (K 75 0) + nI 1), .ref (q), .int (nI (0 + 1))])) := by
  subst hz
  have nla : q ≠ A (2, 0) := Ne.symm (cp_out hA hq (show cdm K (2, 0) from rfl))
  have f1 : (knS K 0 (10)) 0 0 = 10 := by simp [ku]
  have f2 : (knS K 0 (10)) 101 0 = 0 + 1 := by simp [ku]
  have f3 : (knS K 0 (10)) 75 0 = K 75 0 + 1 := by simp [ku]
  refine cp_chg (X := X) (S := S) (R := R) hA (fun r => r = (2, 0) ∨ r = (3, 0)) (fun r hs _ => ?_) (fun r hs hd => ?_) (fun r hs hr => ?_)
  · rcases hs with rfl | rfl
    · rw [show (ru A 3 0 q) (2, 0) = A (2, 0) from ru_n (fun z => by injection z with z1; exact absurd z1 (by decide)), zpu_s]
      show some _ = some (zob 9 [.int (nI ((knS K 0 (10)) 75 0)), (if (knS K 0 (10)) 0 0 = 0 then .ref (zt0 E) else .ref ((ru A 3 0 q) (3, 0))), .int (nI ((knS K 0 (10)) 101 0))])
      rw [f1, f2, f3, if_neg (by omega), nI_add, ru_s]
    · rw [ru_s, zpu_n nla, zpu_s]
      show some _ = some (zeO E ((knS K 0 (10)) 0 0) (fun i => if i < (knS K 0 (10)) 101 0 then some ((ru A 3 0 q) (8, i)) else none))
      rw [f1, f2, arr0 (x := A (8, 0)) (g := fun i => (ru A 3 0 q) (8, i)) rfl]
  · rw [zpu_n (fun z => hs (Or.inl (hA _ _ hd (show cdm K (2, 0) from rfl) z))), zpu_n (cp_out hA hq hd)]
  · have hne : r ≠ (3, 0) := fun z => hs (Or.inr z)
    have hnl : r ≠ (2, 0) := fun z => hs (Or.inl z)
    refine ⟨cdm_knS (Or.inr trivial) hr hne, ru_n hne, ?_⟩
    obtain ⟨k, j⟩ := r
    unfold cdm at hr
    split at hr
    · rename_i q0; injection q0 with q1 q2; subst q1; subst q2
      exact (cct_k0 rfl rfl rfl rfl rfl rfl rfl rfl rfl rfl rfl rfl rfl rfl rfl rfl)
    · rename_i q0; injection q0 with q1 q2; subst q1; subst q2
      exact (cct_k1 rfl)
    · rename_i q0; injection q0 with q1 q2; subst q1; subst q2
      exact absurd (by rw [show j = 0 from hr]) hnl
    · rename_i q0; injection q0 with q1 q2; subst q1; subst q2
      exact absurd (by rw [show j = 0 from hr.1]) hne
    · rename_i q0; injection q0 with q1 q2; subst q1; subst q2
      exact (cct_k4 rfl rfl rfl rfl)
    · rename_i q0; injection q0 with q1 q2; subst q1; subst q2
      exact (cct_k5 rfl rfl (fun _ _ => rfl))
    · rename_i q0; injection q0 with q1 q2; subst q1; subst q2
      exact (cct_k6 rfl rfl rfl rfl)
    · rename_i q0; injection q0 with q1 q2; subst q1; subst q2
      exact (cct_k7 rfl rfl (fun _ _ => rfl))
    · rename_i q0; injection q0 with q1 q2; subst q1; subst q2
      exact (cct_k8 rfl rfl rfl rfl rfl rfl rfl rfl)
    · rename_i q0; injection q0 with q1 q2; subst q1; subst q2
      exact (cct_k9 rfl rfl rfl rfl rfl rfl rfl)
    · rename_i q0; injection q0 with q1 q2; subst q1; subst q2
      exact (cct_k10 rfl)
    · rename_i q0; injection q0 with q1 q2; subst q1; subst q2
      exact (cct_k11 rfl rfl)
    · rename_i q0; injection q0 with q1 q2; subst q1; subst q2
      exact (cct_k12 (fun _ => ru_crl (by decide)))
    · rename_i q0; injection q0 with q1 q2; subst q1; subst q2
      exact (cct_k19 rfl rfl rfl rfl)
    · rename_i q0; injection q0 with q1 q2; subst q1; subst q2
      exact (cct_k20 rfl rfl)
    · rename_i q0; injection q0 with q1 q2; subst q1; subst q2
      exact (cct_k21 (fun _ => rfl))
    · rename_i q0; injection q0 with q1 q2; subst q1; subst q2
      exact (cct_k22 rfl rfl rfl)
    · rename_i q0; injection q0 with q1 q2; subst q1; subst q2
      exact (cct_k23 rfl rfl rfl)
    · rename_i q0; injection q0 with q1 q2; subst q1; subst q2
      exact (cct_k24 rfl rfl rfl)
    · rename_i q0; injection q0 with q1 q2; subst q1; subst q2
      exact (cct_k25 rfl rfl rfl)
    · rename_i q0; injection q0 with q1 q2; subst q1; subst q2
      exact (cct_k26 rfl rfl rfl rfl rfl rfl rfl)
    · rename_i q0; injection q0 with q1 q2; subst q1; subst q2
      exact (cct_k27 rfl rfl rfl rfl)
    · rename_i q0; injection q0 with q1 q2; subst q1; subst q2
      exact (cct_k28 rfl rfl (fun _ _ => rfl))
    · rename_i q0; injection q0 with q1 q2; subst q1; subst q2
      exact (cct_k29 rfl rfl)
    · rename_i q0; injection q0 with q1 q2; subst q1; subst q2
      exact (cct_k30 rfl (fun _ _ => rfl))
    · rename_i q0; injection q0 with q1 q2; subst q1; subst q2
      exact (cct_k31 (fun _ _ => rfl))
    · rename_i q0; injection q0 with q1 q2; subst q1; subst q2
      exact (cct_k32 rfl)
    · rename_i q0; injection q0 with q1 q2; subst q1; subst q2
      exact (cct_k33 rfl rfl rfl)
    · rename_i q0; injection q0 with q1 q2; subst q1; subst q2
      exact (cct_k34 (fun _ _ => rfl))
    · rename_i q0; injection q0 with q1 q2; subst q1; subst q2
      exact (cct_k35 rfl rfl rfl rfl)
    · rename_i q0; injection q0 with q1 q2; subst q1; subst q2
      exact (cct_k36 (fun _ _ => rfl))
    · exact hr.elim
theorem c_addS (l : Launch) (E : zE) {A : rl → Nat} {K : Nat → Nat → Nat} (hA : cIj K A) (X S R : zSt)  (n : Nat) (hn : n = K 101 0) (h1 : n ≤ K 0 0) (h2 : K 0 0 ≤ 90) (h2n : n ≤ 60) (h3 : K 0 0 = 0 ∨ 10 ≤ K 0 0) (hel : n < K 106 0) : zM l E y_AL_add0 b_AL_add0 2 (some .boolean) rm_add [.ref (A (2, 0)), .ref (A (8, n))] (cp E A K X S R) (fun v h' => v = some (.int (nI 1)) ∧ ∃ A' cap, cIj (knS K n (cap)) A' ∧ (∀ r, r ≠ (3, 0) → A' r = A r) ∧ n + 1 ≤ cap ∧ cap ≤ 90 ∧ 10 ≤ cap ∧ h' = cp E A' (knS K n (cap)) X S R) := by
  have hx : zel (cp E A K X S R) (A (8, n)) := ⟨4, _, (R_St, F_St, 8), (cp_8 hA (j := n) (by omega)), rfl, k_1155⟩
  have eL := (cp_2 (E := E) (X := X) (S := S) (R := R) hA)
  by_cases hz : K 0 0 = 0
  · have hn0 : n = 0 := by omega
    rw [show car E A K 3 0 0 0 = .ref (zt0 E) from if_pos hz, ← hn, hn0] at eL
    refine zM_cs (c_AL_addE l E _ _ _ _ eL hx) (zlq rfl) (zlq rfl) (zlq rfl) (zlq rfl) (fun v h' hv => ?_)
    obtain ⟨rfl, q, hq, rfl⟩ := hv
    exact ⟨_, cp_addSE hA n hn hel hn0 q hq, rfl, _, 10, cIj_new hA hq (fun r hr hs => cdm_knS (Or.inr trivial) hr hs), fun r hr => ru_n hr, by omega, by omega, by omega, rfl⟩
  · rw [show car E A K 3 0 0 0 = .ref (A (3, 0)) from if_neg hz, ← hn] at eL
    have eA := (cp_3 (E := E) (X := X) (S := S) (R := R) hA hz)
    rw [← hn] at eA
    by_cases hc : n < K 0 0
    · refine zM_cs (c_AL_addR l E _ _ _ _ _ _ _ _ eL eA hc (by omega) hx) (zlq rfl) (zlq rfl) (zlq rfl) (zlq rfl) (fun v h' hv => ?_)
      obtain ⟨rfl, rfl⟩ := hv
      exact ⟨_, cp_addSR hA n hn hel hc, rfl, A, _, cIj_mono hA (fun r hr => by
        by_cases hs : r = (3, 0)
        · rw [hs]; exact ⟨rfl, hz⟩
        · exact cdm_knS (Or.inr trivial) hr hs), fun r hr => rfl, hc, by omega, by omega, rfl⟩
    · have hcn : K 0 0 = n := by omega
      rw [hcn] at eA
      refine zM_cs (c_AL_addG l E _ _ _ _ _ _ _ eL eA (by omega) (by omega) (fun i hi y hy => ?_) hx) (zlq rfl) (zlq rfl) (by show n + n / 2 ≤ 90; omega) (zlq rfl) (fun v h' hv => ?_)
      · rw [if_pos hi] at hy
        cases hy
        exact ⟨4, _, (R_St, F_St, 8), (cp_8 hA (j := i) (by omega)), rfl, k_1155⟩
      · obtain ⟨rfl, q, hq, rfl⟩ := hv
        exact ⟨_, cp_addSG hA n hn hel (by omega) q hq, rfl, _, n + n / 2, cIj_new hA hq (fun r hr hs => cdm_knS (Or.inr trivial) hr hs), fun r hr => ru_n hr, by omega, by omega, by omega, rfl⟩
abbrev knM (K : Nat → Nat → Nat) (m : Nat) (n cap e : Nat) : Nat → Nat → Nat := (ku (ku (ku (ku K 2 m (cap)) 110 m (n + 1)) 77 m (K 77 m + 1)) 1000 (100 * m + n) e)
theorem cdm_knM {K : Nat → Nat → Nat} {m : Nat} {n cap e : Nat} (hc : K 2 m ≠ 0 ∨ True) {r : rl} (hr : cdm (knM K m n cap e) r) (hs : r ≠ (7, m)) : cdm K r := by
  obtain ⟨k, j⟩ := r
  unfold cdm at hr
  split at hr
  · rename_i q0; injection q0 with q1 q2; subst q1; subst q2
    exact hr
  · rename_i q0; injection q0 with q1 q2; subst q1; subst q2
    exact hr
  · rename_i q0; injection q0 with q1 q2; subst q1; subst q2
    exact hr
  · rename_i q0; injection q0 with q1 q2; subst q1; subst q2
    exact hr
  · rename_i q0; injection q0 with q1 q2; subst q1; subst q2
    exact hr
  · rename_i q0; injection q0 with q1 q2; subst q1; subst q2
    exact hr
  · rename_i q0; injection q0 with q1 q2; subst q1; subst q2
    exact hr
  · rename_i q0; injection q0 with q1 q2; subst q1; subst q2
    have nj : j ≠ m := fun z => hs (by rw [z])
    refine ⟨hr.1, fun z => hr.2 ?_⟩
    show ku (ku (ku (ku K 2 m cap) 110 m (n + 1)) 77 m (K 77 m + 1)) 1000 (100 * m + n) e 2 j = 0
    rw [ku_o (by decide), ku_o (by decide), ku_o (by decide), ku_n nj]
    exact z
  · rename_i q0; injection q0 with q1 q2; subst q1; subst q2
    exact hr
  · rename_i q0; injection q0 with q1 q2; subst q1; subst q2
    exact hr
  · rename_i q0; injection q0 with q1 q2; subst q1; subst q2
    exact hr
  · rename_i q0; injection q0 with q1 q2; subst q1; subst q2
    exact hr
  · rename_i q0; injection q0 with q1 q2; subst q1; subst q2
    exact hr
  · rename_i q0; injection q0 with q1 q2; subst q1; subst q2
    exact hr
  · rename_i q0; injection q0 with q1 q2; subst q1; subst q2
    exact hr
  · rename_i q0; injection q0 with q1 q2; subst q1; subst q2
    exact hr
  · rename_i q0; injection q0 with q1 q2; subst q1; subst q2
    exact hr
  · rename_i q0; injection q0 with q1 q2; subst q1; subst q2
    exact hr
  · rename_i q0; injection q0 with q1 q2; subst q1; subst q2
    exact hr
  · rename_i q0; injection q0 with q1 q2; subst q1; subst q2
    exact hr
  · rename_i q0; injection q0 with q1 q2; subst q1; subst q2
    exact hr
  · rename_i q0; injection q0 with q1 q2; subst q1; subst q2
    exact hr
  · rename_i q0; injection q0 with q1 q2; subst q1; subst q2
    exact hr
  · rename_i q0; injection q0 with q1 q2; subst q1; subst q2
    exact hr
  · rename_i q0; injection q0 with q1 q2; subst q1; subst q2
    exact hr
  · rename_i q0; injection q0 with q1 q2; subst q1; subst q2
    exact hr
  · rename_i q0; injection q0 with q1 q2; subst q1; subst q2
    exact hr
  · rename_i q0; injection q0 with q1 q2; subst q1; subst q2
    exact hr
  · rename_i q0; injection q0 with q1 q2; subst q1; subst q2
    exact hr
  · rename_i q0; injection q0 with q1 q2; subst q1; subst q2
    exact hr
  · rename_i q0; injection q0 with q1 q2; subst q1; subst q2
    exact hr
  · exact hr.elim
set_option maxRecDepth 100000 in
theorem cp_addMR {E : zE} {A : rl → Nat} {K : Nat → Nat → Nat} (hA : cIj K A) {X S R : zSt} (m : Nat) (hm : m < K 105 0) (hm1 : ∀ j, j < K 105 0 → K 110 j ≤ 90) (hkk : ∀ i, i < K 110 m → K 1000 (100 * m + i) < K 106 0) (e : Nat) (n : Nat) (hn : n = K 110 m) (hel : e < K 106 0) (hc : n < K 2 m) : zle (cp E A (knM K m n (K 2 m) e) X S R) (zpu (zpu (cp E A K X S R) (A (7, m)) (zeO E (K 2 m) (va_up (fun i => if i < n then some (A (8, K 1000 (100 * m + i))) else none) n (some (A (8, e)))))) (A (6, m)) (zob 9 [.int (nI (K 77 m) + nI 1), .ref (A (7, m)), .int (nI (n + 1))])) := by
  have dA : cdm K (7, m) := ⟨hm, by omega⟩
  have nla : A (7, m) ≠ A (6, m) := fun z => by have := hA _ _ dA (show cdm K (6, m) from hm) z; injection this with z1; exact absurd z1 (by decide)
  have f1 : (knM K m n (K 2 m) e) 2 m = K 2 m := by simp [ku]
  have f2 : (knM K m n (K 2 m) e) 110 m = n + 1 := by simp [ku]
  have f3 : (knM K m n (K 2 m) e) 77 m = K 77 m + 1 := by simp [ku]
  refine cp_chg (X := X) (S := S) (R := R) hA (fun r => r = (6, m) ∨ r = (7, m)) (fun r hs _ => ?_) (fun r hs hd => ?_) (fun r hs hr => ?_)
  · rcases hs with rfl | rfl
    · rw [zpu_s]
      show some _ = some (zob 9 [.int (nI ((knM K m n (K 2 m) e) 77 m)), (if (knM K m n (K 2 m) e) 2 m = 0 then .ref (zt0 E) else .ref (A (7, m))), .int (nI ((knM K m n (K 2 m) e) 110 m))])
      rw [f1, f2, f3, if_neg (by omega), nI_add]
    · rw [zpu_n nla, zpu_s]
      show some _ = some (zeO E ((knM K m n (K 2 m) e) 2 m) (fun i => if i < (knM K m n (K 2 m) e) 110 m then some (A (8, (knM K m n (K 2 m) e) 1000 (100 * m + i))) else none))
      rw [f1, f2, arr1 (x := A (8, e)) (g := fun i => A (8, (knM K m n (K 2 m) e) 1000 (100 * m + i))) (g0 := fun i => A (8, K 1000 (100 * m + i))) (show A (8, (knM K m n (K 2 m) e) 1000 (100 * m + n)) = A (8, e) from by rw [show (knM K m n (K 2 m) e) 1000 (100 * m + n) = e from by simp [ku]]) (fun i hi => show A (8, (knM K m n (K 2 m) e) 1000 (100 * m + i)) = A (8, K 1000 (100 * m + i)) from by rw [show (knM K m n (K 2 m) e) 1000 (100 * m + i) = K 1000 (100 * m + i) from (ku_n (by omega)).trans rfl])]
  · rw [zpu_n (fun z => hs (Or.inl (hA _ _ hd (show cdm K (6, m) from hm) z))), zpu_n (fun z => hs (Or.inr (hA _ _ hd dA z)))]
  · have hne : r ≠ (7, m) := fun z => hs (Or.inr z)
    have hnl : r ≠ (6, m) := fun z => hs (Or.inl z)
    refine ⟨cdm_knM (Or.inr trivial) hr hne, rfl, ?_⟩
    obtain ⟨k, j⟩ := r
    unfold cdm at hr
    split at hr
    · rename_i q0; injection q0 with q1 q2; subst q1; subst q2
      exact (cct_k0 rfl rfl rfl rfl rfl rfl rfl rfl rfl rfl rfl rfl rfl rfl rfl rfl)
    · rename_i q0; injection q0 with q1 q2; subst q1; subst q2
      exact (cct_k1 rfl)
    · rename_i q0; injection q0 with q1 q2; subst q1; subst q2
      exact (cct_k2 rfl rfl rfl rfl)
    · rename_i q0; injection q0 with q1 q2; subst q1; subst q2
      exact (cct_k3 rfl rfl (fun _ _ => rfl))
    · rename_i q0; injection q0 with q1 q2; subst q1; subst q2
      exact (cct_k4 rfl rfl rfl rfl)
    · rename_i q0; injection q0 with q1 q2; subst q1; subst q2
      exact (cct_k5 rfl rfl (fun _ _ => rfl))
    · rename_i q0; injection q0 with q1 q2; subst q1; subst q2
      have nj : j ≠ m := fun z => hnl (by rw [z])
      exact cct_k6 (show (knM K m n (K 2 m) e) 2 j = K 2 j from by simp [ku, nj]) rfl (show (knM K m n (K 2 m) e) 77 j = K 77 j from by simp [ku, nj]) (show (knM K m n (K 2 m) e) 110 j = K 110 j from by simp [ku, nj])
    · rename_i q0; injection q0 with q1 q2; subst q1; subst q2
      have nj : j ≠ m := fun z => hne (by rw [z])
      have q3 := hm1 j hr.1
      exact cct_k7 (show (knM K m n (K 2 m) e) 2 j = K 2 j from by simp [ku, nj]) (show (knM K m n (K 2 m) e) 110 j = K 110 j from by simp [ku, nj]) (fun i hi => by rw [show (knM K m n (K 2 m) e) 1000 (100 * j + i) = K 1000 (100 * j + i) from (ku_n (by have := hm1 m hm; omega)).trans rfl])
    · rename_i q0; injection q0 with q1 q2; subst q1; subst q2
      exact (cct_k8 rfl rfl rfl rfl rfl rfl rfl rfl)
    · rename_i q0; injection q0 with q1 q2; subst q1; subst q2
      exact (cct_k9 rfl rfl rfl rfl rfl rfl rfl)
    · rename_i q0; injection q0 with q1 q2; subst q1; subst q2
      exact (cct_k10 rfl)
    · rename_i q0; injection q0 with q1 q2; subst q1; subst q2
      exact (cct_k11 rfl rfl)
    · rename_i q0; injection q0 with q1 q2; subst q1; subst q2
      exact (cct_k12 (fun _ => rfl))
    · rename_i q0; injection q0 with q1 q2; subst q1; subst q2
      exact (cct_k19 rfl rfl rfl rfl)
    · rename_i q0; injection q0 with q1 q2; subst q1; subst q2
      exact (cct_k20 rfl rfl)
    · rename_i q0; injection q0 with q1 q2; subst q1; subst q2
      exact (cct_k21 (fun _ => rfl))
    · rename_i q0; injection q0 with q1 q2; subst q1; subst q2
      exact (cct_k22 rfl rfl rfl)
    · rename_i q0; injection q0 with q1 q2; subst q1; subst q2
      exact (cct_k23 rfl rfl rfl)
    · rename_i q0; injection q0 with q1 q2; subst q1; subst q2
      exact (cct_k24 rfl rfl rfl)
    · rename_i q0; injection q0 with q1 q2; subst q1; subst q2
      exact (cct_k25 rfl rfl rfl)
    · rename_i q0; injection q0 with q1 q2; subst q1; subst q2
      exact (cct_k26 rfl rfl rfl rfl rfl rfl rfl)
    · rename_i q0; injection q0 with q1 q2; subst q1; subst q2
      exact (cct_k27 rfl rfl rfl rfl)
    · rename_i q0; injection q0 with q1 q2; subst q1; subst q2
      exact (cct_k28 rfl rfl (fun _ _ => rfl))
    · rename_i q0; injection q0 with q1 q2; subst q1; subst q2
      exact (cct_k29 rfl rfl)
    · rename_i q0; injection q0 with q1 q2; subst q1; subst q2
      exact (cct_k30 rfl (fun _ _ => rfl))
    · rename_i q0; injection q0 with q1 q2; subst q1; subst q2
      exact (cct_k31 (fun _ _ => rfl))
    · rename_i q0; injection q0 with q1 q2; subst q1; subst q2
      exact (cct_k32 rfl)
    · rename_i q0; injection q0 with q1 q2; subst q1; subst q2
      exact (cct_k33 rfl rfl rfl)
    · rename_i q0; injection q0 with q1 q2; subst q1; subst q2
      exact (cct_k34 (fun _ _ => rfl))
    · rename_i q0; injection q0 with q1 q2; subst q1; subst q2
      exact (cct_k35 rfl rfl rfl rfl)
    · rename_i q0; injection q0 with q1 q2; subst q1; subst q2
      exact (cct_k36 (fun _ _ => rfl))
    · exact hr.elim
set_option maxRecDepth 100000 in
theorem cp_addMG {E : zE} {A : rl → Nat} {K : Nat → Nat → Nat} (hA : cIj K A) {X S R : zSt} (m : Nat) (hm : m < K 105 0) (hm1 : ∀ j, j < K 105 0 → K 110 j ≤ 90) (hkk : ∀ i, i < K 110 m → K 1000 (100 * m + i) < K 106 0) (e : Nat) (n : Nat) (hn : n = K 110 m) (hel : e < K 106 0) (hc : 10 ≤ n) (q : Nat) (hq : cp E A K X S R q = none) : zle (cp E (ru A 7 m q) (knM K m n (n + n / 2) e) X S R) (zpu (zpu (cp E A K X S R) (q) (zeO E (n + n / 2) (va_up (va_cpy (fun i => if i < n then some (A (8, K 1000 (100 * m + i))) else none) (fun _ => none) 0 0 n) n (some (A (8, e)))))) (A (6, m)) (zob 9 [.int (nI (K 77 m) + nI 1), .ref (q), .int (nI (n + 1))])) := by
  have nla : q ≠ A (6, m) := Ne.symm (cp_out hA hq (show cdm K (6, m) from hm))
  have f1 : (knM K m n (n + n / 2) e) 2 m = n + n / 2 := by simp [ku]
  have f2 : (knM K m n (n + n / 2) e) 110 m = n + 1 := by simp [ku]
  have f3 : (knM K m n (n + n / 2) e) 77 m = K 77 m + 1 := by simp [ku]
  refine cp_chg (X := X) (S := S) (R := R) hA (fun r => r = (6, m) ∨ r = (7, m)) (fun r hs _ => ?_) (fun r hs hd => ?_) (fun r hs hr => ?_)
  · rcases hs with rfl | rfl
    · rw [show (ru A 7 m q) (6, m) = A (6, m) from ru_n (fun z => by injection z with z1; exact absurd z1 (by decide)), zpu_s]
      show some _ = some (zob 9 [.int (nI ((knM K m n (n + n / 2) e) 77 m)), (if (knM K m n (n + n / 2) e) 2 m = 0 then .ref (zt0 E) else .ref ((ru A 7 m q) (7, m))), .int (nI ((knM K m n (n + n / 2) e) 110 m))])
      rw [f1, f2, f3, if_neg (by omega), nI_add, ru_s]
    · rw [ru_s, zpu_n nla, zpu_s]
      show some _ = some (zeO E ((knM K m n (n + n / 2) e) 2 m) (fun i => if i < (knM K m n (n + n / 2) e) 110 m then some ((ru A 7 m q) (8, (knM K m n (n + n / 2) e) 1000 (100 * m + i))) else none))
      rw [f1, f2, arr2 (x := A (8, e)) (g := fun i => (ru A 7 m q) (8, (knM K m n (n + n / 2) e) 1000 (100 * m + i))) (g0 := fun i => A (8, K 1000 (100 * m + i))) (show (ru A 7 m q) (8, (knM K m n (n + n / 2) e) 1000 (100 * m + n)) = A (8, e) from by rw [show (knM K m n (n + n / 2) e) 1000 (100 * m + n) = e from by simp [ku]]; rfl) (fun i hi => show (ru A 7 m q) (8, (knM K m n (n + n / 2) e) 1000 (100 * m + i)) = A (8, K 1000 (100 * m + i)) from by rw [show (knM K m n (n + n / 2) e) 1000 (100 * m + i) = K 1000 (100 * m + i) from (ku_n (by omega)).trans rfl]; rfl)]
  · rw [zpu_n (fun z => hs (Or.inl (hA _ _ hd (show cdm K (6, m) from hm) z))), zpu_n (cp_out hA hq hd)]
  · have hne : r ≠ (7, m) := fun z => hs (Or.inr z)
    have hnl : r ≠ (6, m) := fun z => hs (Or.inl z)
    refine ⟨cdm_knM (Or.inr trivial) hr hne, ru_n hne, ?_⟩
    obtain ⟨k, j⟩ := r
    unfold cdm at hr
    split at hr
    · rename_i q0; injection q0 with q1 q2; subst q1; subst q2
      exact (cct_k0 rfl rfl rfl rfl rfl rfl rfl rfl rfl rfl rfl rfl rfl rfl rfl rfl)
    · rename_i q0; injection q0 with q1 q2; subst q1; subst q2
      exact (cct_k1 rfl)
    · rename_i q0; injection q0 with q1 q2; subst q1; subst q2
      exact (cct_k2 rfl rfl rfl rfl)
    · rename_i q0; injection q0 with q1 q2; subst q1; subst q2
      exact (cct_k3 rfl rfl (fun _ _ => rfl))
    · rename_i q0; injection q0 with q1 q2; subst q1; subst q2
      exact (cct_k4 rfl rfl rfl rfl)
    · rename_i q0; injection q0 with q1 q2; subst q1; subst q2
      exact (cct_k5 rfl rfl (fun _ _ => rfl))
    · rename_i q0; injection q0 with q1 q2; subst q1; subst q2
      have nj : j ≠ m := fun z => hnl (by rw [z])
      exact cct_k6 (show (knM K m n (n + n / 2) e) 2 j = K 2 j from by simp [ku, nj]) (ru_i nj) (show (knM K m n (n + n / 2) e) 77 j = K 77 j from by simp [ku, nj]) (show (knM K m n (n + n / 2) e) 110 j = K 110 j from by simp [ku, nj])
    · rename_i q0; injection q0 with q1 q2; subst q1; subst q2
      have nj : j ≠ m := fun z => hne (by rw [z])
      have q3 := hm1 j hr.1
      exact cct_k7 (show (knM K m n (n + n / 2) e) 2 j = K 2 j from by simp [ku, nj]) (show (knM K m n (n + n / 2) e) 110 j = K 110 j from by simp [ku, nj]) (fun i hi => by rw [show (knM K m n (n + n / 2) e) 1000 (100 * j + i) = K 1000 (100 * j + i) from (ku_n (by have := hm1 m hm; omega)).trans rfl]; rfl)
    · rename_i q0; injection q0 with q1 q2; subst q1; subst q2
      exact (cct_k8 rfl rfl rfl rfl rfl rfl rfl rfl)
    · rename_i q0; injection q0 with q1 q2; subst q1; subst q2
      exact (cct_k9 rfl rfl rfl rfl rfl rfl rfl)
    · rename_i q0; injection q0 with q1 q2; subst q1; subst q2
      exact (cct_k10 rfl)
    · rename_i q0; injection q0 with q1 q2; subst q1; subst q2
      exact (cct_k11 rfl rfl)
    · rename_i q0; injection q0 with q1 q2; subst q1; subst q2
      exact (cct_k12 (fun _ => ru_crl (by decide)))
    · rename_i q0; injection q0 with q1 q2; subst q1; subst q2
      exact (cct_k19 rfl rfl rfl rfl)
    · rename_i q0; injection q0 with q1 q2; subst q1; subst q2
      exact (cct_k20 rfl rfl)
    · rename_i q0; injection q0 with q1 q2; subst q1; subst q2
      exact (cct_k21 (fun _ => rfl))
    · rename_i q0; injection q0 with q1 q2; subst q1; subst q2
      exact (cct_k22 rfl rfl rfl)
    · rename_i q0; injection q0 with q1 q2; subst q1; subst q2
      exact (cct_k23 rfl rfl rfl)
    · rename_i q0; injection q0 with q1 q2; subst q1; subst q2
      exact (cct_k24 rfl rfl rfl)
    · rename_i q0; injection q0 with q1 q2; subst q1; subst q2
      exact (cct_k25 rfl rfl rfl)
    · rename_i q0; injection q0 with q1 q2; subst q1; subst q2
      exact (cct_k26 rfl rfl rfl rfl rfl rfl rfl)
    · rename_i q0; injection q0 with q1 q2; subst q1; subst q2
      exact (cct_k27 rfl rfl rfl rfl)
    · rename_i q0; injection q0 with q1 q2; subst q1; subst q2
      exact (cct_k28 rfl rfl (fun _ _ => rfl))
    · rename_i q0; injection q0 with q1 q2; subst q1; subst q2
      exact (cct_k29 rfl rfl)
    · rename_i q0; injection q0 with q1 q2; subst q1; subst q2
      exact (cct_k30 rfl (fun _ _ => rfl))
    · rename_i q0; injection q0 with q1 q2; subst q1; subst q2
      exact (cct_k31 (fun _ _ => rfl))
    · rename_i q0; injection q0 with q1 q2; subst q1; subst q2
      exact (cct_k32 rfl)
    · rename_i q0; injection q0 with q1 q2; subst q1; subst q2
      exact (cct_k33 rfl rfl rfl)
    · rename_i q0; injection q0 with q1 q2; subst q1; subst q2
      exact (cct_k34 (fun _ _ => rfl))
    · rename_i q0; injection q0 with q1 q2; subst q1; subst q2
      exact (cct_k35 rfl rfl rfl rfl)
    · rename_i q0; injection q0 with q1 q2; subst q1; subst q2
      exact (cct_k36 (fun _ _ => rfl))
    · exact hr.elim
set_option maxRecDepth 100000 in
theorem cp_addME {E : zE} {A : rl → Nat} {K : Nat → Nat → Nat} (hA : cIj K A) {X S R : zSt} (m : Nat) (hm : m < K 105 0) (hm1 : ∀ j, j < K 105 0 → K 110 j ≤ 90) (hkk : ∀ i, i < K 110 m → K 1000 (100 * m + i) < K 106 0) (e : Nat) (n : Nat) (hn : n = K 110 m) (hel : e < K 106 0) (hz : n = 0) (q : Nat) (hq : cp E A K X S R q = none) : zle (cp E (ru A 7 m q) (knM K m n (10) e) X S R) (zpu (zpu (cp E A K X S R) (q) (zeO E (10) (va_up (fun _ => none) 0 (some (A (8, e)))))) (A (6, m)) (zob 9 [.int (nI (K 77 m) + nI 1), .ref (q), .int (nI (0 + 1))])) := by
  subst hz
  have nla : q ≠ A (6, m) := Ne.symm (cp_out hA hq (show cdm K (6, m) from hm))
  have f1 : (knM K m 0 (10) e) 2 m = 10 := by simp [ku]
  have f2 : (knM K m 0 (10) e) 110 m = 0 + 1 := by simp [ku]
  have f3 : (knM K m 0 (10) e) 77 m = K 77 m + 1 := by simp [ku]
  refine cp_chg (X := X) (S := S) (R := R) hA (fun r => r = (6, m) ∨ r = (7, m)) (fun r hs _ => ?_) (fun r hs hd => ?_) (fun r hs hr => ?_)
  · rcases hs with rfl | rfl
    · rw [show (ru A 7 m q) (6, m) = A (6, m) from ru_n (fun z => by injection z with z1; exact absurd z1 (by decide)), zpu_s]
      show some _ = some (zob 9 [.int (nI ((knM K m 0 (10) e) 77 m)), (if (knM K m 0 (10) e) 2 m = 0 then .ref (zt0 E) else .ref ((ru A 7 m q) (7, m))), .int (nI ((knM K m 0 (10) e) 110 m))])
      rw [f1, f2, f3, if_neg (by omega), nI_add, ru_s]
    · rw [ru_s, zpu_n nla, zpu_s]
      show some _ = some (zeO E ((knM K m 0 (10) e) 2 m) (fun i => if i < (knM K m 0 (10) e) 110 m then some ((ru A 7 m q) (8, (knM K m 0 (10) e) 1000 (100 * m + i))) else none))
      rw [f1, f2, arr0 (x := A (8, e)) (g := fun i => (ru A 7 m q) (8, (knM K m 0 (10) e) 1000 (100 * m + i))) (show (ru A 7 m q) (8, (knM K m 0 (10) e) 1000 (100 * m + 0)) = A (8, e) from by rw [show (knM K m 0 (10) e) 1000 (100 * m + 0) = e from by simp [ku]]; rfl)]
  · rw [zpu_n (fun z => hs (Or.inl (hA _ _ hd (show cdm K (6, m) from hm) z))), zpu_n (cp_out hA hq hd)]
  · have hne : r ≠ (7, m) := fun z => hs (Or.inr z)
    have hnl : r ≠ (6, m) := fun z => hs (Or.inl z)
    refine ⟨cdm_knM (Or.inr trivial) hr hne, ru_n hne, ?_⟩
    obtain ⟨k, j⟩ := r
    unfold cdm at hr
    split at hr
    · rename_i q0; injection q0 with q1 q2; subst q1; subst q2
      exact (cct_k0 rfl rfl rfl rfl rfl rfl rfl rfl rfl rfl rfl rfl rfl rfl rfl rfl)
    · rename_i q0; injection q0 with q1 q2; subst q1; subst q2
      exact (cct_k1 rfl)
    · rename_i q0; injection q0 with q1 q2; subst q1; subst q2
      exact (cct_k2 rfl rfl rfl rfl)
    · rename_i q0; injection q0 with q1 q2; subst q1; subst q2
      exact (cct_k3 rfl rfl (fun _ _ => rfl))
    · rename_i q0; injection q0 with q1 q2; subst q1; subst q2
      exact (cct_k4 rfl rfl rfl rfl)
    · rename_i q0; injection q0 with q1 q2; subst q1; subst q2
      exact (cct_k5 rfl rfl (fun _ _ => rfl))
    · rename_i q0; injection q0 with q1 q2; subst q1; subst q2
      have nj : j ≠ m := fun z => hnl (by rw [z])
      exact cct_k6 (show (knM K m 0 (10) e) 2 j = K 2 j from by simp [ku, nj]) (ru_i nj) (show (knM K m 0 (10) e) 77 j = K 77 j from by simp [ku, nj]) (show (knM K m 0 (10) e) 110 j = K 110 j from by simp [ku, nj])
    · rename_i q0; injection q0 with q1 q2; subst q1; subst q2
      have nj : j ≠ m := fun z => hne (by rw [z])
      have q3 := hm1 j hr.1
      exact cct_k7 (show (knM K m 0 (10) e) 2 j = K 2 j from by simp [ku, nj]) (show (knM K m 0 (10) e) 110 j = K 110 j from by simp [ku, nj]) (fun i hi => by rw [show (knM K m 0 (10) e) 1000 (100 * j + i) = K 1000 (100 * j + i) from (ku_n (by have := hm1 m hm; omega)).trans rfl]; rfl)
    · rename_i q0; injection q0 with q1 q2; subst q1; subst q2
      exact (cct_k8 rfl rfl rfl rfl rfl rfl rfl rfl)
    · rename_i q0; injection q0 with q1 q2; subst q1; subst q2
      exact (cct_k9 rfl rfl rfl rfl rfl rfl rfl)
    · rename_i q0; injection q0 with q1 q2; subst q1; subst q2
      exact (cct_k10 rfl)
    · rename_i q0; injection q0 with q1 q2; subst q1; subst q2
      exact (cct_k11 rfl rfl)
    · rename_i q0; injection q0 with q1 q2; subst q1; subst q2
      exact (cct_k12 (fun _ => ru_crl (by decide)))
    · rename_i q0; injection q0 with q1 q2; subst q1; subst q2
      exact (cct_k19 rfl rfl rfl rfl)
    · rename_i q0; injection q0 with q1 q2; subst q1; subst q2
      exact (cct_k20 rfl rfl)
    · rename_i q0; injection q0 with q1 q2; subst q1; subst q2
      exact (cct_k21 (fun _ => rfl))
    · rename_i q0; injection q0 with q1 q2; subst q1; subst q2
      exact (cct_k22 rfl rfl rfl)
    · rename_i q0; injection q0 with q1 q2; subst q1; subst q2
      exact (cct_k23 rfl rfl rfl)
    · rename_i q0; injection q0 with q1 q2; subst q1; subst q2
      exact (cct_k24 rfl rfl rfl)
    · rename_i q0; injection q0 with q1 q2; subst q1; subst q2
      exact (cct_k25 rfl rfl rfl)
    · rename_i q0; injection q0 with q1 q2; subst q1; subst q2
      exact (cct_k26 rfl rfl rfl rfl rfl rfl rfl)
    · rename_i q0; injection q0 with q1 q2; subst q1; subst q2
      exact (cct_k27 rfl rfl rfl rfl)
    · rename_i q0; injection q0 with q1 q2; subst q1; subst q2
      exact (cct_k28 rfl rfl (fun _ _ => rfl))
    · rename_i q0; injection q0 with q1 q2; subst q1; subst q2
      exact (cct_k29 rfl rfl)
    · rename_i q0; injection q0 with q1 q2; subst q1; subst q2
      exact (cct_k30 rfl (fun _ _ => rfl))
    · rename_i q0; injection q0 with q1 q2; subst q1; subst q2
      exact (cct_k31 (fun _ _ => rfl))
    · rename_i q0; injection q0 with q1 q2; subst q1; subst q2
      exact (cct_k32 rfl)
    · rename_i q0; injection q0 with q1 q2; subst q1; subst q2
      exact (cct_k33 rfl rfl rfl)
    · rename_i q0; injection q0 with q1 q2; subst q1; subst q2
      exact (cct_k34 (fun _ _ => rfl))
    · rename_i q0; injection q0 with q1 q2; subst q1; subst q2
      exact (cct_k35 rfl rfl rfl rfl)
    · rename_i q0; injection q0 with q1 q2; subst q1; subst q2
      exact (cct_k36 (fun _ _ => rfl))
    · exact hr.elim
theorem c_addM (l : Launch) (E : zE) {A : rl → Nat} {K : Nat → Nat → Nat} (hA : cIj K A) (X S R : zSt) (m : Nat) (hm : m < K 105 0) (hm1 : ∀ j, j < K 105 0 → K 110 j ≤ 90) (hkk : ∀ i, i < K 110 m → K 1000 (100 * m + i) < K 106 0) (e : Nat) (n : Nat) (hn : n = K 110 m) (h1 : n ≤ K 2 m) (h2 : K 2 m ≤ 90) (h2n : n ≤ 60) (h3 : K 2 m = 0 ∨ 10 ≤ K 2 m) (hel : e < K 106 0) : zM l E y_AL_add0 b_AL_add0 2 (some .boolean) rm_add [.ref (A (6, m)), .ref (A (8, e))] (cp E A K X S R) (fun v h' => v = some (.int (nI 1)) ∧ ∃ A' cap, cIj (knM K m n (cap) e) A' ∧ (∀ r, r ≠ (7, m) → A' r = A r) ∧ n + 1 ≤ cap ∧ cap ≤ 90 ∧ 10 ≤ cap ∧ h' = cp E A' (knM K m n (cap) e) X S R) := by
  have hx : zel (cp E A K X S R) (A (8, e)) := ⟨4, _, (R_St, F_St, 8), (cp_8 hA (j := e) (by omega)), rfl, k_1155⟩
  have eL := (cp_6 (E := E) (X := X) (S := S) (R := R) hA hm)
  by_cases hz : K 2 m = 0
  · have hn0 : n = 0 := by omega
    rw [show car E A K 7 2 m m = .ref (zt0 E) from if_pos hz, ← hn, hn0] at eL
    refine zM_cs (c_AL_addE l E _ _ _ _ eL hx) (zlq rfl) (zlq rfl) (zlq rfl) (zlq rfl) (fun v h' hv => ?_)
    obtain ⟨rfl, q, hq, rfl⟩ := hv
    exact ⟨_, cp_addME hA m hm hm1 hkk e n hn hel hn0 q hq, rfl, _, 10, cIj_new hA hq (fun r hr hs => cdm_knM (Or.inr trivial) hr hs), fun r hr => ru_n hr, by omega, by omega, by omega, rfl⟩
  · rw [show car E A K 7 2 m m = .ref (A (7, m)) from if_neg hz, ← hn] at eL
    have eA := (cp_7 (E := E) (X := X) (S := S) (R := R) hA ⟨hm, hz⟩)
    rw [← hn] at eA
    by_cases hc : n < K 2 m
    · refine zM_cs (c_AL_addR l E _ _ _ _ _ _ _ _ eL eA hc (by omega) hx) (zlq rfl) (zlq rfl) (zlq rfl) (zlq rfl) (fun v h' hv => ?_)
      obtain ⟨rfl, rfl⟩ := hv
      exact ⟨_, cp_addMR hA m hm hm1 hkk e n hn hel hc, rfl, A, _, cIj_mono hA (fun r hr => by
        by_cases hs : r = (7, m)
        · rw [hs]; exact ⟨hm, hz⟩
        · exact cdm_knM (Or.inr trivial) hr hs), fun r hr => rfl, hc, by omega, by omega, rfl⟩
    · have hcn : K 2 m = n := by omega
      rw [hcn] at eA
      refine zM_cs (c_AL_addG l E _ _ _ _ _ _ _ eL eA (by omega) (by omega) (fun i hi y hy => ?_) hx) (zlq rfl) (zlq rfl) (by show n + n / 2 ≤ 90; omega) (zlq rfl) (fun v h' hv => ?_)
      · rw [if_pos hi] at hy
        cases hy
        have hki := hkk i (by omega)
        exact ⟨4, _, (R_St, F_St, 8), (cp_8 hA (j := K 1000 (100 * m + i)) (by omega)), rfl, k_1155⟩
      · obtain ⟨rfl, q, hq, rfl⟩ := hv
        exact ⟨_, cp_addMG hA m hm hm1 hkk e n hn hel (by omega) q hq, rfl, _, n + n / 2, cIj_new hA hq (fun r hr hs => cdm_knM (Or.inr trivial) hr hs), fun r hr => ru_n hr, by omega, by omega, by omega, rfl⟩
abbrev knT (K : Nat → Nat → Nat) (n cap : Nat) : Nat → Nat → Nat := (ku (ku (ku K 20 0 (cap)) 102 0 (n + 1)) 78 0 (K 78 0 + 1))
theorem cdm_knT {K : Nat → Nat → Nat} {n cap : Nat} (hc : K 20 0 ≠ 0 ∨ True) {r : rl} (hr : cdm (knT K n cap) r) (hs : r ≠ (28, 0)) : cdm K r := by
  obtain ⟨k, j⟩ := r
  unfold cdm at hr
  split at hr
  · rename_i q0; injection q0 with q1 q2; subst q1; subst q2
    exact hr
  · rename_i q0; injection q0 with q1 q2; subst q1; subst q2
    exact hr
  · rename_i q0; injection q0 with q1 q2; subst q1; subst q2
    exact hr
  · rename_i q0; injection q0 with q1 q2; subst q1; subst q2
    exact hr
  · rename_i q0; injection q0 with q1 q2; subst q1; subst q2
    exact hr
  · rename_i q0; injection q0 with q1 q2; subst q1; subst q2
    exact hr
  · rename_i q0; injection q0 with q1 q2; subst q1; subst q2
    exact hr
  · rename_i q0; injection q0 with q1 q2; subst q1; subst q2
    exact hr
  · rename_i q0; injection q0 with q1 q2; subst q1; subst q2
    exact hr
  · rename_i q0; injection q0 with q1 q2; subst q1; subst q2
    exact hr
  · rename_i q0; injection q0 with q1 q2; subst q1; subst q2
    exact hr
  · rename_i q0; injection q0 with q1 q2; subst q1; subst q2
    exact hr
  · rename_i q0; injection q0 with q1 q2; subst q1; subst q2
    exact hr
  · rename_i q0; injection q0 with q1 q2; subst q1; subst q2
    exact hr
  · rename_i q0; injection q0 with q1 q2; subst q1; subst q2
    exact hr
  · rename_i q0; injection q0 with q1 q2; subst q1; subst q2
    exact hr
  · rename_i q0; injection q0 with q1 q2; subst q1; subst q2
    exact hr
  · rename_i q0; injection q0 with q1 q2; subst q1; subst q2
    exact hr
  · rename_i q0; injection q0 with q1 q2; subst q1; subst q2
    exact hr
  · rename_i q0; injection q0 with q1 q2; subst q1; subst q2
    exact hr
  · rename_i q0; injection q0 with q1 q2; subst q1; subst q2
    exact hr
  · rename_i q0; injection q0 with q1 q2; subst q1; subst q2
    exact hr
  · rename_i q0; injection q0 with q1 q2; subst q1; subst q2
    exact absurd (by rw [show j = 0 from hr.1]) hs
  · rename_i q0; injection q0 with q1 q2; subst q1; subst q2
    exact hr
  · rename_i q0; injection q0 with q1 q2; subst q1; subst q2
    exact hr
  · rename_i q0; injection q0 with q1 q2; subst q1; subst q2
    exact hr
  · rename_i q0; injection q0 with q1 q2; subst q1; subst q2
    exact hr
  · rename_i q0; injection q0 with q1 q2; subst q1; subst q2
    exact hr
  · rename_i q0; injection q0 with q1 q2; subst q1; subst q2
    exact hr
  · rename_i q0; injection q0 with q1 q2; subst q1; subst q2
    exact hr
  · rename_i q0; injection q0 with q1 q2; subst q1; subst q2
    exact hr
  · exact hr.elim
set_option maxRecDepth 100000 in
theorem cp_addTR {E : zE} {A : rl → Nat} {K : Nat → Nat → Nat} (hA : cIj K A) {X S R : zSt} (hf : K 109 0 ≠ 0) (n : Nat) (hn : n = K 102 0) (hel : n < K 107 0) (hc : n < K 20 0) : zle (cp E A (knT K n (K 20 0)) X S R) (zpu (zpu (cp E A K X S R) (A (28, 0)) (zeO E (K 20 0) (va_up (fun i => if i < n then some (A (33, i)) else none) n (some (A (33, n)))))) (A (27, 0)) (zob 9 [.int (nI (K 78 0) + nI 1), .ref (A (28, 0)), .int (nI (n + 1))])) := by
  have dA : cdm K (28, 0) := ⟨rfl, hf, by omega⟩
  have nla : A (28, 0) ≠ A (27, 0) := fun z => by have := hA _ _ dA (show cdm K (27, 0) from ⟨rfl, hf⟩) z; injection this with z1; exact absurd z1 (by decide)
  have f1 : (knT K n (K 20 0)) 20 0 = K 20 0 := by simp [ku]
  have f2 : (knT K n (K 20 0)) 102 0 = n + 1 := by simp [ku]
  have f3 : (knT K n (K 20 0)) 78 0 = K 78 0 + 1 := by simp [ku]
  refine cp_chg (X := X) (S := S) (R := R) hA (fun r => r = (27, 0) ∨ r = (28, 0)) (fun r hs _ => ?_) (fun r hs hd => ?_) (fun r hs hr => ?_)
  · rcases hs with rfl | rfl
    · rw [zpu_s]
      show some _ = some (zob 9 [.int (nI ((knT K n (K 20 0)) 78 0)), (if (knT K n (K 20 0)) 20 0 = 0 then .ref (zt0 E) else .ref (A (28, 0))), .int (nI ((knT K n (K 20 0)) 102 0))])
      rw [f1, f2, f3, if_neg (by omega), nI_add]
    · rw [zpu_n nla, zpu_s]
      show some _ = some (zeO E ((knT K n (K 20 0)) 20 0) (fun i => if i < (knT K n (K 20 0)) 102 0 then some (A (33, i)) else none))
      rw [f1, f2, arr1 (x := A (33, n)) (g := fun i => A (33, i)) (g0 := fun i => A (33, i)) rfl (fun i hi => rfl)]
  · rw [zpu_n (fun z => hs (Or.inl (hA _ _ hd (show cdm K (27, 0) from ⟨rfl, hf⟩) z))), zpu_n (fun z => hs (Or.inr (hA _ _ hd dA z)))]
  · have hne : r ≠ (28, 0) := fun z => hs (Or.inr z)
    have hnl : r ≠ (27, 0) := fun z => hs (Or.inl z)
    refine ⟨cdm_knT (Or.inr trivial) hr hne, rfl, ?_⟩
    obtain ⟨k, j⟩ := r
    unfold cdm at hr
    split at hr
    · rename_i q0; injection q0 with q1 q2; subst q1; subst q2
      exact (cct_k0 rfl rfl rfl rfl rfl rfl rfl rfl rfl rfl rfl rfl rfl rfl rfl rfl)
    · rename_i q0; injection q0 with q1 q2; subst q1; subst q2
      exact (cct_k1 rfl)
    · rename_i q0; injection q0 with q1 q2; subst q1; subst q2
      exact (cct_k2 rfl rfl rfl rfl)
    · rename_i q0; injection q0 with q1 q2; subst q1; subst q2
      exact (cct_k3 rfl rfl (fun _ _ => rfl))
    · rename_i q0; injection q0 with q1 q2; subst q1; subst q2
      exact (cct_k4 rfl rfl rfl rfl)
    · rename_i q0; injection q0 with q1 q2; subst q1; subst q2
      exact (cct_k5 rfl rfl (fun _ _ => rfl))
    · rename_i q0; injection q0 with q1 q2; subst q1; subst q2
      exact (cct_k6 rfl rfl rfl rfl)
    · rename_i q0; injection q0 with q1 q2; subst q1; subst q2
      exact (cct_k7 rfl rfl (fun _ _ => rfl))
    · rename_i q0; injection q0 with q1 q2; subst q1; subst q2
      exact (cct_k8 rfl rfl rfl rfl rfl rfl rfl rfl)
    · rename_i q0; injection q0 with q1 q2; subst q1; subst q2
      exact (cct_k9 rfl rfl rfl rfl rfl rfl rfl)
    · rename_i q0; injection q0 with q1 q2; subst q1; subst q2
      exact (cct_k10 rfl)
    · rename_i q0; injection q0 with q1 q2; subst q1; subst q2
      exact (cct_k11 rfl rfl)
    · rename_i q0; injection q0 with q1 q2; subst q1; subst q2
      exact (cct_k12 (fun _ => rfl))
    · rename_i q0; injection q0 with q1 q2; subst q1; subst q2
      exact (cct_k19 rfl rfl rfl rfl)
    · rename_i q0; injection q0 with q1 q2; subst q1; subst q2
      exact (cct_k20 rfl rfl)
    · rename_i q0; injection q0 with q1 q2; subst q1; subst q2
      exact (cct_k21 (fun _ => rfl))
    · rename_i q0; injection q0 with q1 q2; subst q1; subst q2
      exact (cct_k22 rfl rfl rfl)
    · rename_i q0; injection q0 with q1 q2; subst q1; subst q2
      exact (cct_k23 rfl rfl rfl)
    · rename_i q0; injection q0 with q1 q2; subst q1; subst q2
      exact (cct_k24 rfl rfl rfl)
    · rename_i q0; injection q0 with q1 q2; subst q1; subst q2
      exact (cct_k25 rfl rfl rfl)
    · rename_i q0; injection q0 with q1 q2; subst q1; subst q2
      exact (cct_k26 rfl rfl rfl rfl rfl rfl rfl)
    · rename_i q0; injection q0 with q1 q2; subst q1; subst q2
      exact absurd (by rw [show j = 0 from hr.1]) hnl
    · rename_i q0; injection q0 with q1 q2; subst q1; subst q2
      exact absurd (by rw [show j = 0 from hr.1]) hne
    · rename_i q0; injection q0 with q1 q2; subst q1; subst q2
      exact (cct_k29 rfl rfl)
    · rename_i q0; injection q0 with q1 q2; subst q1; subst q2
      exact (cct_k30 rfl (fun _ _ => rfl))
    · rename_i q0; injection q0 with q1 q2; subst q1; subst q2
      exact (cct_k31 (fun _ _ => rfl))
    · rename_i q0; injection q0 with q1 q2; subst q1; subst q2
      exact (cct_k32 rfl)
    · rename_i q0; injection q0 with q1 q2; subst q1; subst q2
      exact (cct_k33 rfl rfl rfl)
    · rename_i q0; injection q0 with q1 q2; subst q1; subst q2
      exact (cct_k34 (fun _ _ => rfl))
    · rename_i q0; injection q0 with q1 q2; subst q1; subst q2
      exact (cct_k35 rfl rfl rfl rfl)
    · rename_i q0; injection q0 with q1 q2; subst q1; subst q2
      exact (cct_k36 (fun _ _ => rfl))
    · exact hr.elim
set_option maxRecDepth 100000 in
theorem cp_addTG {E : zE} {A : rl → Nat} {K : Nat → Nat → Nat} (hA : cIj K A) {X S R : zSt} (hf : K 109 0 ≠ 0) (n : Nat) (hn : n = K 102 0) (hel : n < K 107 0) (hc : 10 ≤ n) (q : Nat) (hq : cp E A K X S R q = none) : zle (cp E (ru A 28 0 q) (knT K n (n + n / 2)) X S R) (zpu (zpu (cp E A K X S R) (q) (zeO E (n + n / 2) (va_up (va_cpy (fun i => if i < n then some (A (33, i)) else none) (fun _ => none) 0 0 n) n (some (A (33, n)))))) (A (27, 0)) (zob 9 [.int (nI (K 78 0) + nI 1), .ref (q), .int (nI (n + 1))])) := by
  have nla : q ≠ A (27, 0) := Ne.symm (cp_out hA hq (show cdm K (27, 0) from ⟨rfl, hf⟩))
  have f1 : (knT K n (n + n / 2)) 20 0 = n + n / 2 := by simp [ku]
  have f2 : (knT K n (n + n / 2)) 102 0 = n + 1 := by simp [ku]
  have f3 : (knT K n (n + n / 2)) 78 0 = K 78 0 + 1 := by simp [ku]
  refine cp_chg (X := X) (S := S) (R := R) hA (fun r => r = (27, 0) ∨ r = (28, 0)) (fun r hs _ => ?_) (fun r hs hd => ?_) (fun r hs hr => ?_)
  · rcases hs with rfl | rfl
    · rw [show (ru A 28 0 q) (27, 0) = A (27, 0) from ru_n (fun z => by injection z with z1; exact absurd z1 (by decide)), zpu_s]
      show some _ = some (zob 9 [.int (nI ((knT K n (n + n / 2)) 78 0)), (if (knT K n (n + n / 2)) 20 0 = 0 then .ref (zt0 E) else .ref ((ru A 28 0 q) (28, 0))), .int (nI ((knT K n (n + n / 2)) 102 0))])
      rw [f1, f2, f3, if_neg (by omega), nI_add, ru_s]
    · rw [ru_s, zpu_n nla, zpu_s]
      show some _ = some (zeO E ((knT K n (n + n / 2)) 20 0) (fun i => if i < (knT K n (n + n / 2)) 102 0 then some ((ru A 28 0 q) (33, i)) else none))
      rw [f1, f2, arr2 (x := A (33, n)) (g := fun i => (ru A 28 0 q) (33, i)) (g0 := fun i => A (33, i)) rfl (fun i hi => rfl)]
  · rw [zpu_n (fun z => hs (Or.inl (hA _ _ hd (show cdm K (27, 0) from ⟨rfl, hf⟩) z))), zpu_n (cp_out hA hq hd)]
  · have hne : r ≠ (28, 0) := fun z => hs (Or.inr z)
    have hnl : r ≠ (27, 0) := fun z => hs (Or.inl z)
    refine ⟨cdm_knT (Or.inr trivial) hr hne, ru_n hne, ?_⟩
    obtain ⟨k, j⟩ := r
    unfold cdm at hr
    split at hr
    · rename_i q0; injection q0 with q1 q2; subst q1; subst q2
      exact (cct_k0 rfl rfl rfl rfl rfl rfl rfl rfl rfl rfl rfl rfl rfl rfl rfl rfl)
    · rename_i q0; injection q0 with q1 q2; subst q1; subst q2
      exact (cct_k1 rfl)
    · rename_i q0; injection q0 with q1 q2; subst q1; subst q2
      exact (cct_k2 rfl rfl rfl rfl)
    · rename_i q0; injection q0 with q1 q2; subst q1; subst q2
      exact (cct_k3 rfl rfl (fun _ _ => rfl))
    · rename_i q0; injection q0 with q1 q2; subst q1; subst q2
      exact (cct_k4 rfl rfl rfl rfl)
    · rename_i q0; injection q0 with q1 q2; subst q1; subst q2
      exact (cct_k5 rfl rfl (fun _ _ => rfl))
    · rename_i q0; injection q0 with q1 q2; subst q1; subst q2
      exact (cct_k6 rfl rfl rfl rfl)
    · rename_i q0; injection q0 with q1 q2; subst q1; subst q2
      exact (cct_k7 rfl rfl (fun _ _ => rfl))
    · rename_i q0; injection q0 with q1 q2; subst q1; subst q2
      exact (cct_k8 rfl rfl rfl rfl rfl rfl rfl rfl)
    · rename_i q0; injection q0 with q1 q2; subst q1; subst q2
      exact (cct_k9 rfl rfl rfl rfl rfl rfl rfl)
    · rename_i q0; injection q0 with q1 q2; subst q1; subst q2
      exact (cct_k10 rfl)
    · rename_i q0; injection q0 with q1 q2; subst q1; subst q2
      exact (cct_k11 rfl rfl)
    · rename_i q0; injection q0 with q1 q2; subst q1; subst q2
      exact (cct_k12 (fun _ => ru_crl (by decide)))
    · rename_i q0; injection q0 with q1 q2; subst q1; subst q2
      exact (cct_k19 rfl rfl rfl rfl)
    · rename_i q0; injection q0 with q1 q2; subst q1; subst q2
      exact (cct_k20 rfl rfl)
    · rename_i q0; injection q0 with q1 q2; subst q1; subst q2
      exact (cct_k21 (fun _ => rfl))
    · rename_i q0; injection q0 with q1 q2; subst q1; subst q2
      exact (cct_k22 rfl rfl rfl)
    · rename_i q0; injection q0 with q1 q2; subst q1; subst q2
      exact (cct_k23 rfl rfl rfl)
    · rename_i q0; injection q0 with q1 q2; subst q1; subst q2
      exact (cct_k24 rfl rfl rfl)
    · rename_i q0; injection q0 with q1 q2; subst q1; subst q2
      exact (cct_k25 rfl rfl rfl)
    · rename_i q0; injection q0 with q1 q2; subst q1; subst q2
      exact (cct_k26 rfl rfl rfl rfl rfl rfl rfl)
    · rename_i q0; injection q0 with q1 q2; subst q1; subst q2
      exact absurd (by rw [show j = 0 from hr.1]) hnl
    · rename_i q0; injection q0 with q1 q2; subst q1; subst q2
      exact absurd (by rw [show j = 0 from hr.1]) hne
    · rename_i q0; injection q0 with q1 q2; subst q1; subst q2
      exact (cct_k29 rfl rfl)
    · rename_i q0; injection q0 with q1 q2; subst q1; subst q2
      exact (cct_k30 rfl (fun _ _ => rfl))
    · rename_i q0; injection q0 with q1 q2; subst q1; subst q2
      exact (cct_k31 (fun _ _ => rfl))
    · rename_i q0; injection q0 with q1 q2; subst q1; subst q2
      exact (cct_k32 rfl)
    · rename_i q0; injection q0 with q1 q2; subst q1; subst q2
      exact (cct_k33 rfl rfl rfl)
    · rename_i q0; injection q0 with q1 q2; subst q1; subst q2
      exact (cct_k34 (fun _ _ => rfl))
    · rename_i q0; injection q0 with q1 q2; subst q1; subst q2
      exact (cct_k35 rfl rfl rfl rfl)
    · rename_i q0; injection q0 with q1 q2; subst q1; subst q2
      exact (cct_k36 (fun _ _ => rfl))
    · exact hr.elim
set_option maxRecDepth 100000 in
theorem cp_addTE {E : zE} {A : rl → Nat} {K : Nat → Nat → Nat} (hA : cIj K A) {X S R : zSt} (hf : K 109 0 ≠ 0) (n : Nat) (hn : n = K 102 0) (hel : n < K 107 0) (hz : n = 0) (q : Nat) (hq : cp E A K X S R q = none) : zle (cp E (ru A 28 0 q) (knT K n (10)) X S R) (zpu (zpu (cp E A K X S R) (q) (zeO E (10) (va_up (fun _ => none) 0 (some (A (33, n)))))) (A (27, 0)) (zob 9 [.int (nI (K 78 0) + nI 1), .ref (q), .int (nI (0 + 1))])) := by
  subst hz
  have nla : q ≠ A (27, 0) := Ne.symm (cp_out hA hq (show cdm K (27, 0) from ⟨rfl, hf⟩))
  have f1 : (knT K 0 (10)) 20 0 = 10 := by simp [ku]
  have f2 : (knT K 0 (10)) 102 0 = 0 + 1 := by simp [ku]
  have f3 : (knT K 0 (10)) 78 0 = K 78 0 + 1 := by simp [ku]
  refine cp_chg (X := X) (S := S) (R := R) hA (fun r => r = (27, 0) ∨ r = (28, 0)) (fun r hs _ => ?_) (fun r hs hd => ?_) (fun r hs hr => ?_)
  · rcases hs with rfl | rfl
    · rw [show (ru A 28 0 q) (27, 0) = A (27, 0) from ru_n (fun z => by injection z with z1; exact absurd z1 (by decide)), zpu_s]
      show some _ = some (zob 9 [.int (nI ((knT K 0 (10)) 78 0)), (if (knT K 0 (10)) 20 0 = 0 then .ref (zt0 E) else .ref ((ru A 28 0 q) (28, 0))), .int (nI ((knT K 0 (10)) 102 0))])
      rw [f1, f2, f3, if_neg (by omega), nI_add, ru_s]
    · rw [ru_s, zpu_n nla, zpu_s]
      show some _ = some (zeO E ((knT K 0 (10)) 20 0) (fun i => if i < (knT K 0 (10)) 102 0 then some ((ru A 28 0 q) (33, i)) else none))
      rw [f1, f2, arr0 (x := A (33, 0)) (g := fun i => (ru A 28 0 q) (33, i)) rfl]
  · rw [zpu_n (fun z => hs (Or.inl (hA _ _ hd (show cdm K (27, 0) from ⟨rfl, hf⟩) z))), zpu_n (cp_out hA hq hd)]
  · have hne : r ≠ (28, 0) := fun z => hs (Or.inr z)
    have hnl : r ≠ (27, 0) := fun z => hs (Or.inl z)
    refine ⟨cdm_knT (Or.inr trivial) hr hne, ru_n hne, ?_⟩
    obtain ⟨k, j⟩ := r
    unfold cdm at hr
    split at hr
    · rename_i q0; injection q0 with q1 q2; subst q1; subst q2
      exact (cct_k0 rfl rfl rfl rfl rfl rfl rfl rfl rfl rfl rfl rfl rfl rfl rfl rfl)
    · rename_i q0; injection q0 with q1 q2; subst q1; subst q2
      exact (cct_k1 rfl)
    · rename_i q0; injection q0 with q1 q2; subst q1; subst q2
      exact (cct_k2 rfl rfl rfl rfl)
    · rename_i q0; injection q0 with q1 q2; subst q1; subst q2
      exact (cct_k3 rfl rfl (fun _ _ => rfl))
    · rename_i q0; injection q0 with q1 q2; subst q1; subst q2
      exact (cct_k4 rfl rfl rfl rfl)
    · rename_i q0; injection q0 with q1 q2; subst q1; subst q2
      exact (cct_k5 rfl rfl (fun _ _ => rfl))
    · rename_i q0; injection q0 with q1 q2; subst q1; subst q2
      exact (cct_k6 rfl rfl rfl rfl)
    · rename_i q0; injection q0 with q1 q2; subst q1; subst q2
      exact (cct_k7 rfl rfl (fun _ _ => rfl))
    · rename_i q0; injection q0 with q1 q2; subst q1; subst q2
      exact (cct_k8 rfl rfl rfl rfl rfl rfl rfl rfl)
    · rename_i q0; injection q0 with q1 q2; subst q1; subst q2
      exact (cct_k9 rfl rfl rfl rfl rfl rfl rfl)
    · rename_i q0; injection q0 with q1 q2; subst q1; subst q2
      exact (cct_k10 rfl)
    · rename_i q0; injection q0 with q1 q2; subst q1; subst q2
      exact (cct_k11 rfl rfl)
    · rename_i q0; injection q0 with q1 q2; subst q1; subst q2
      exact (cct_k12 (fun _ => ru_crl (by decide)))
    · rename_i q0; injection q0 with q1 q2; subst q1; subst q2
      exact (cct_k19 rfl rfl rfl rfl)
    · rename_i q0; injection q0 with q1 q2; subst q1; subst q2
      exact (cct_k20 rfl rfl)
    · rename_i q0; injection q0 with q1 q2; subst q1; subst q2
      exact (cct_k21 (fun _ => rfl))
    · rename_i q0; injection q0 with q1 q2; subst q1; subst q2
      exact (cct_k22 rfl rfl rfl)
    · rename_i q0; injection q0 with q1 q2; subst q1; subst q2
      exact (cct_k23 rfl rfl rfl)
    · rename_i q0; injection q0 with q1 q2; subst q1; subst q2
      exact (cct_k24 rfl rfl rfl)
    · rename_i q0; injection q0 with q1 q2; subst q1; subst q2
      exact (cct_k25 rfl rfl rfl)
    · rename_i q0; injection q0 with q1 q2; subst q1; subst q2
      exact (cct_k26 rfl rfl rfl rfl rfl rfl rfl)
    · rename_i q0; injection q0 with q1 q2; subst q1; subst q2
      exact absurd (by rw [show j = 0 from hr.1]) hnl
    · rename_i q0; injection q0 with q1 q2; subst q1; subst q2
      exact absurd (by rw [show j = 0 from hr.1]) hne
    · rename_i q0; injection q0 with q1 q2; subst q1; subst q2
      exact (cct_k29 rfl rfl)
    · rename_i q0; injection q0 with q1 q2; subst q1; subst q2
      exact (cct_k30 rfl (fun _ _ => rfl))
    · rename_i q0; injection q0 with q1 q2; subst q1; subst q2
      exact (cct_k31 (fun _ _ => rfl))
    · rename_i q0; injection q0 with q1 q2; subst q1; subst q2
      exact (cct_k32 rfl)
    · rename_i q0; injection q0 with q1 q2; subst q1; subst q2
      exact (cct_k33 rfl rfl rfl)
    · rename_i q0; injection q0 with q1 q2; subst q1; subst q2
      exact (cct_k34 (fun _ _ => rfl))
    · rename_i q0; injection q0 with q1 q2; subst q1; subst q2
      exact (cct_k35 rfl rfl rfl rfl)
    · rename_i q0; injection q0 with q1 q2; subst q1; subst q2
      exact (cct_k36 (fun _ _ => rfl))
    · exact hr.elim
theorem c_addT (l : Launch) (E : zE) {A : rl → Nat} {K : Nat → Nat → Nat} (hA : cIj K A) (X S R : zSt) (hf : K 109 0 ≠ 0) (n : Nat) (hn : n = K 102 0) (h1 : n ≤ K 20 0) (h2 : K 20 0 ≤ 90) (h2n : n ≤ 60) (h3 : K 20 0 = 0 ∨ 10 ≤ K 20 0) (hel : n < K 107 0) : zM l E y_AL_add0 b_AL_add0 2 (some .boolean) rm_add [.ref (A (27, 0)), .ref (A (33, n))] (cp E A K X S R) (fun v h' => v = some (.int (nI 1)) ∧ ∃ A' cap, cIj (knT K n (cap)) A' ∧ (∀ r, r ≠ (28, 0) → A' r = A r) ∧ n + 1 ≤ cap ∧ cap ≤ 90 ∧ 10 ≤ cap ∧ h' = cp E A' (knT K n (cap)) X S R) := by
  have hx : zel (cp E A K X S R) (A (33, n)) := ⟨5, _, (R_Th, F_Th, 3), (cp_33 hA (j := n) ⟨by omega, hf⟩), rfl, k_1158⟩
  have eL := (cp_27 (E := E) (X := X) (S := S) (R := R) hA hf)
  by_cases hz : K 20 0 = 0
  · have hn0 : n = 0 := by omega
    rw [show car E A K 28 20 0 0 = .ref (zt0 E) from if_pos hz, ← hn, hn0] at eL
    refine zM_cs (c_AL_addE l E _ _ _ _ eL hx) (zlq rfl) (zlq rfl) (zlq rfl) (zlq rfl) (fun v h' hv => ?_)
    obtain ⟨rfl, q, hq, rfl⟩ := hv
    exact ⟨_, cp_addTE hA hf n hn hel hn0 q hq, rfl, _, 10, cIj_new hA hq (fun r hr hs => cdm_knT (Or.inr trivial) hr hs), fun r hr => ru_n hr, by omega, by omega, by omega, rfl⟩
  · rw [show car E A K 28 20 0 0 = .ref (A (28, 0)) from if_neg hz, ← hn] at eL
    have eA := (cp_28 (E := E) (X := X) (S := S) (R := R) hA ⟨hf, hz⟩)
    rw [← hn] at eA
    by_cases hc : n < K 20 0
    · refine zM_cs (c_AL_addR l E _ _ _ _ _ _ _ _ eL eA hc (by omega) hx) (zlq rfl) (zlq rfl) (zlq rfl) (zlq rfl) (fun v h' hv => ?_)
      obtain ⟨rfl, rfl⟩ := hv
      exact ⟨_, cp_addTR hA hf n hn hel hc, rfl, A, _, cIj_mono hA (fun r hr => by
        by_cases hs : r = (28, 0)
        · rw [hs]; exact ⟨rfl, hf, hz⟩
        · exact cdm_knT (Or.inr trivial) hr hs), fun r hr => rfl, hc, by omega, by omega, rfl⟩
    · have hcn : K 20 0 = n := by omega
      rw [hcn] at eA
      refine zM_cs (c_AL_addG l E _ _ _ _ _ _ _ eL eA (by omega) (by omega) (fun i hi y hy => ?_) hx) (zlq rfl) (zlq rfl) (by show n + n / 2 ≤ 90; omega) (zlq rfl) (fun v h' hv => ?_)
      · rw [if_pos hi] at hy
        cases hy
        exact ⟨5, _, (R_Th, F_Th, 3), (cp_33 hA (j := i) ⟨by omega, hf⟩), rfl, k_1158⟩
      · obtain ⟨rfl, q, hq, rfl⟩ := hv
        exact ⟨_, cp_addTG hA hf n hn hel (by omega) q hq, rfl, _, n + n / 2, cIj_new hA hq (fun r hr hs => cdm_knT (Or.inr trivial) hr hs), fun r hr => ru_n hr, by omega, by omega, by omega, rfl⟩
