/-! the component: method, statement, clear -/
abbrev knL (K : Nat → Nat → Nat) (n : Nat) : Nat → Nat → Nat := ku (ku (ku (ku K 105 0 (n + 1)) 2 n 0) 110 n 0) 77 n 0
set_option maxRecDepth 100000 in
theorem cp_newL {E : zE} {A : rl → Nat} {K : Nat → Nat → Nat} (hA : cIj K A) {X S R : zSt} (n : Nat) (hn : n = K 105 0) (h100 : K 100 0 ≤ n) (q : Nat) (hq : cp E A K X S R q = none) : ∃ A', cIj (knL K n) A' ∧ A' (6, n) = q ∧ (∀ r, r ≠ (6, n) → A' r = A r) ∧ zle (cp E A' (knL K n) X S R) (zpu (cp E A K X S R) q (zob 9 [.int (nI 0), .ref (zt0 E), .int 0])) := by
  have f1 : knL K n 2 n = 0 := by simp [ku]
  have f2 : knL K n 110 n = 0 := by simp [ku]
  have f3 : knL K n 77 n = 0 := by simp [ku]
  have f4 : ∀ j, j ≠ n → knL K n 2 j = K 2 j := fun j hj => by simp [ku, hj]
  have f5 : ∀ j, j ≠ n → knL K n 110 j = K 110 j := fun j hj => by simp [ku, hj]
  have f6 : ∀ j, j ≠ n → knL K n 77 j = K 77 j := fun j hj => by simp [ku, hj]
  have dm : ∀ r, cdm (knL K n) r → r ≠ (6, n) → cdm K r := by
    intro r hr hs
    obtain ⟨k, j⟩ := r
    unfold cdm at hr
    split at hr
    · rename_i q0; injection q0 with q1 q2; subst q1; subst q2
      exact hr
    · rename_i q0; injection q0 with q1 q2; subst q1; subst q2
      exact hr
    · rename_i q0; injection q0 with q1 q2; subst q1; subst q2
      exact hr
    · rename_i q0; injection q0 with q1 q2; subst q1; subst q2
      exact hr
    · rename_i q0; injection q0 with q1 q2; subst q1; subst q2
      exact hr
    · rename_i q0; injection q0 with q1 q2; subst q1; subst q2
      exact hr
    · rename_i q0; injection q0 with q1 q2; subst q1; subst q2
      have nj : j ≠ n := fun z => hs (by rw [z])
      have hr' : j < n + 1 := hr
      show j < K 105 0
      omega
    · rename_i q0; injection q0 with q1 q2; subst q1; subst q2
      have hr' : j < n + 1 := hr.1
      have nj : j ≠ n := fun z => hr.2 (by rw [z]; exact f1)
      exact ⟨by omega, by rw [← f4 j nj]; exact hr.2⟩
    · rename_i q0; injection q0 with q1 q2; subst q1; subst q2
      exact hr
    · rename_i q0; injection q0 with q1 q2; subst q1; subst q2
      exact hr
    · rename_i q0; injection q0 with q1 q2; subst q1; subst q2
      exact hr
    · rename_i q0; injection q0 with q1 q2; subst q1; subst q2
      exact hr
    · rename_i q0; injection q0 with q1 q2; subst q1; subst q2
      exact hr
    · rename_i q0; injection q0 with q1 q2; subst q1; subst q2
      exact hr
    · rename_i q0; injection q0 with q1 q2; subst q1; subst q2
      exact hr
    · rename_i q0; injection q0 with q1 q2; subst q1; subst q2
      exact hr
    · rename_i q0; injection q0 with q1 q2; subst q1; subst q2
      exact hr
    · rename_i q0; injection q0 with q1 q2; subst q1; subst q2
      exact hr
    · rename_i q0; injection q0 with q1 q2; subst q1; subst q2
      exact hr
    · rename_i q0; injection q0 with q1 q2; subst q1; subst q2
      exact hr
    · rename_i q0; injection q0 with q1 q2; subst q1; subst q2
      exact hr
    · rename_i q0; injection q0 with q1 q2; subst q1; subst q2
      exact hr
    · rename_i q0; injection q0 with q1 q2; subst q1; subst q2
      exact hr
    · rename_i q0; injection q0 with q1 q2; subst q1; subst q2
      exact hr
    · rename_i q0; injection q0 with q1 q2; subst q1; subst q2
      exact hr
    · rename_i q0; injection q0 with q1 q2; subst q1; subst q2
      exact hr
    · rename_i q0; injection q0 with q1 q2; subst q1; subst q2
      exact hr
    · rename_i q0; injection q0 with q1 q2; subst q1; subst q2
      exact hr
    · rename_i q0; injection q0 with q1 q2; subst q1; subst q2
      exact hr
    · rename_i q0; injection q0 with q1 q2; subst q1; subst q2
      exact hr
    · rename_i q0; injection q0 with q1 q2; subst q1; subst q2
      exact hr
    · exact hr.elim
  refine ⟨ru A 6 n q, cIj_new hA hq dm, ru_s, fun r hr => ru_n hr, ?_⟩
  refine cp_chg (X := X) (S := S) (R := R) hA (fun r => r = (6, n)) (fun r hs _ => ?_) (fun r hs hd => zpu_n (cp_out hA hq hd)) (fun r hs hr => ⟨dm r hr hs, ru_n hs, ?_⟩)
  · rw [hs, ru_s, zpu_s]
    show some _ = some (zob 9 [.int (nI (knL K n 77 n)), (if knL K n 2 n = 0 then .ref (zt0 E) else .ref (ru A 6 n q (7, n))), .int (nI (knL K n 110 n))])
    rw [f1, f2, f3, if_pos rfl, show nI 0 = (0 : Int32) from nI_0]
  · obtain ⟨k, j⟩ := r
    unfold cdm at hr
    split at hr
    · rename_i q0; injection q0 with q1 q2; subst q1; subst q2
      exact (cct_k0 rfl rfl rfl rfl rfl rfl rfl rfl rfl rfl rfl rfl rfl rfl rfl rfl)
    · rename_i q0; injection q0 with q1 q2; subst q1; subst q2
      exact (cct_k1 rfl)
    · rename_i q0; injection q0 with q1 q2; subst q1; subst q2
      exact (cct_k2 rfl rfl rfl rfl)
    · rename_i q0; injection q0 with q1 q2; subst q1; subst q2
      exact (cct_k3 rfl rfl (fun _ _ => rfl))
    · rename_i q0; injection q0 with q1 q2; subst q1; subst q2
      exact (cct_k4 rfl rfl rfl rfl)
    · rename_i q0; injection q0 with q1 q2; subst q1; subst q2
      exact cct_k5 rfl rfl (fun i hi => ru_i (by omega))
    · rename_i q0; injection q0 with q1 q2; subst q1; subst q2
      have nj : j ≠ n := fun z => hs (by rw [z])
      exact cct_k6 (f4 j nj) rfl (f6 j nj) (f5 j nj)
    · rename_i q0; injection q0 with q1 q2; subst q1; subst q2
      have nj : j ≠ n := fun z => hr.2 (by rw [z]; exact f1)
      exact cct_k7 (f4 j nj) (f5 j nj) (fun _ _ => rfl)
    · rename_i q0; injection q0 with q1 q2; subst q1; subst q2
      exact (cct_k8 rfl rfl rfl rfl rfl rfl rfl rfl)
    · rename_i q0; injection q0 with q1 q2; subst q1; subst q2
      exact (cct_k9 rfl rfl rfl rfl rfl rfl rfl)
    · rename_i q0; injection q0 with q1 q2; subst q1; subst q2
      exact (cct_k10 rfl)
    · rename_i q0; injection q0 with q1 q2; subst q1; subst q2
      exact (cct_k11 rfl rfl)
    · rename_i q0; injection q0 with q1 q2; subst q1; subst q2
      exact (cct_k12 (fun _ => ru_crl (by decide)))
    · rename_i q0; injection q0 with q1 q2; subst q1; subst q2
      exact (cct_k19 rfl rfl rfl rfl)
    · rename_i q0; injection q0 with q1 q2; subst q1; subst q2
      exact (cct_k20 rfl rfl)
    · rename_i q0; injection q0 with q1 q2; subst q1; subst q2
      exact (cct_k21 (fun _ => rfl))
    · rename_i q0; injection q0 with q1 q2; subst q1; subst q2
      exact (cct_k22 rfl rfl rfl)
    · rename_i q0; injection q0 with q1 q2; subst q1; subst q2
      exact (cct_k23 rfl rfl rfl)
    · rename_i q0; injection q0 with q1 q2; subst q1; subst q2
      exact (cct_k24 rfl rfl rfl)
    · rename_i q0; injection q0 with q1 q2; subst q1; subst q2
      exact (cct_k25 rfl rfl rfl)
    · rename_i q0; injection q0 with q1 q2; subst q1; subst q2
      exact (cct_k26 rfl rfl rfl rfl rfl rfl rfl)
    · rename_i q0; injection q0 with q1 q2; subst q1; subst q2
      exact (cct_k27 rfl rfl rfl rfl)
    · rename_i q0; injection q0 with q1 q2; subst q1; subst q2
      exact (cct_k28 rfl rfl (fun _ _ => rfl))
    · rename_i q0; injection q0 with q1 q2; subst q1; subst q2
      exact (cct_k29 rfl rfl)
    · rename_i q0; injection q0 with q1 q2; subst q1; subst q2
      exact (cct_k30 rfl (fun _ _ => rfl))
    · rename_i q0; injection q0 with q1 q2; subst q1; subst q2
      exact (cct_k31 (fun _ _ => rfl))
    · rename_i q0; injection q0 with q1 q2; subst q1; subst q2
      exact (cct_k32 rfl)
    · rename_i q0; injection q0 with q1 q2; subst q1; subst q2
      exact (cct_k33 rfl rfl rfl)
    · rename_i q0; injection q0 with q1 q2; subst q1; subst q2
      exact (cct_k34 (fun _ _ => rfl))
    · rename_i q0; injection q0 with q1 q2; subst q1; subst q2
      exact (cct_k35 rfl rfl rfl rfl)
    · rename_i q0; injection q0 with q1 q2; subst q1; subst q2
      exact (cct_k36 (fun _ _ => rfl))
    · exact hr.elim
abbrev knN (K : Nat → Nat → Nat) (n : Nat) : Nat → Nat → Nat := ku K 106 0 (n + 1)
theorem tSt1_n {X : zSt} {m p q r s t : Int32} {k j : Nat} (h : j ≠ cn X 7) : ∀ a, tSt1 X m k p q r s t a j = X a j := by
  intro a
  unfold tSt1
  by_cases c : a = 8 ∨ a = 9 ∨ a = 10 ∨ a = 11 ∨ a = 12 ∨ a = 13 ∨ a = 14 ∨ a = 15
  · rcases c with rfl | rfl | rfl | rfl | rfl | rfl | rfl | rfl <;> exact upd_n h
  · simp only [not_or] at c
    rw [va_up_ne _ _ c.2.2.2.2.2.2.2, va_up_ne _ _ c.2.2.2.2.2.2.1, va_up_ne _ _ c.2.2.2.2.2.1, va_up_ne _ _ c.2.2.2.2.1, va_up_ne _ _ c.2.2.2.1, va_up_ne _ _ c.2.2.1, va_up_ne _ _ c.2.1, va_up_ne _ _ c.1]
theorem tSt1_o {X : zSt} {m p q r s t : Int32} {k : Nat} {a : Nat} (h : a < 8 ∨ 15 < a) : tSt1 X m k p q r s t a = X a := by
  unfold tSt1
  rw [va_up_ne _ _ (by omega), va_up_ne _ _ (by omega), va_up_ne _ _ (by omega), va_up_ne _ _ (by omega), va_up_ne _ _ (by omega), va_up_ne _ _ (by omega), va_up_ne _ _ (by omega), va_up_ne _ _ (by omega)]
set_option maxRecDepth 100000 in
theorem cp_newS {E : zE} {A : rl → Nat} {K : Nat → Nat → Nat} (hA : cIj K A) {X S R : zSt} (m p q r s t : Int32) (k : Nat) (n : Nat) (hn : n = K 106 0) (h101 : K 101 0 ≤ n) (h7 : n = cn X 7) (hkk : ∀ m k, m < K 105 0 → k < K 110 m → K 1000 (100 * m + k) < K 106 0) (hby : ∀ j, 0 < j → j < K 108 0 → K 109 0 ≠ 0 → K 2000 j < K 106 0) (w : Nat) (hq : cp E A K X S R w = none) : ∃ A', cIj (knN K n) A' ∧ A' (8, n) = w ∧ (∀ r, r ≠ (8, n) → A' r = A r) ∧ zle (cp E A' (knN K n) (tSt1 X m k p q r s t) S R) (zpu (cp E A K X S R) w (zob 4 [.int m, .int (nI k), .int p, .int q, .int r, .int s, .int t, .int (-1)])) := by
  have dm : ∀ r, cdm (knN K n) r → r ≠ (8, n) → cdm K r := by
    intro r hr hs
    obtain ⟨k, j⟩ := r
    unfold cdm at hr
    split at hr
    · rename_i q0; injection q0 with q1 q2; subst q1; subst q2
      exact hr
    · rename_i q0; injection q0 with q1 q2; subst q1; subst q2
      exact hr
    · rename_i q0; injection q0 with q1 q2; subst q1; subst q2
      exact hr
    · rename_i q0; injection q0 with q1 q2; subst q1; subst q2
      exact hr
    · rename_i q0; injection q0 with q1 q2; subst q1; subst q2
      exact hr
    · rename_i q0; injection q0 with q1 q2; subst q1; subst q2
      exact hr
    · rename_i q0; injection q0 with q1 q2; subst q1; subst q2
      exact hr
    · rename_i q0; injection q0 with q1 q2; subst q1; subst q2
      exact hr
    · rename_i q0; injection q0 with q1 q2; subst q1; subst q2
      have nj : j ≠ n := fun z => hs (by rw [z])
      have hr' : j < n + 1 := hr
      show j < K 106 0
      omega
    · rename_i q0; injection q0 with q1 q2; subst q1; subst q2
      exact hr
    · rename_i q0; injection q0 with q1 q2; subst q1; subst q2
      exact hr
    · rename_i q0; injection q0 with q1 q2; subst q1; subst q2
      exact hr
    · rename_i q0; injection q0 with q1 q2; subst q1; subst q2
      exact hr
    · rename_i q0; injection q0 with q1 q2; subst q1; subst q2
      exact hr
    · rename_i q0; injection q0 with q1 q2; subst q1; subst q2
      exact hr
    · rename_i q0; injection q0 with q1 q2; subst q1; subst q2
      exact hr
    · rename_i q0; injection q0 with q1 q2; subst q1; subst q2
      exact hr
    · rename_i q0; injection q0 with q1 q2; subst q1; subst q2
      exact hr
    · rename_i q0; injection q0 with q1 q2; subst q1; subst q2
      exact hr
    · rename_i q0; injection q0 with q1 q2; subst q1; subst q2
      exact hr
    · rename_i q0; injection q0 with q1 q2; subst q1; subst q2
      exact hr
    · rename_i q0; injection q0 with q1 q2; subst q1; subst q2
      exact hr
    · rename_i q0; injection q0 with q1 q2; subst q1; subst q2
      exact hr
    · rename_i q0; injection q0 with q1 q2; subst q1; subst q2
      exact hr
    · rename_i q0; injection q0 with q1 q2; subst q1; subst q2
      exact hr
    · rename_i q0; injection q0 with q1 q2; subst q1; subst q2
      exact hr
    · rename_i q0; injection q0 with q1 q2; subst q1; subst q2
      exact hr
    · rename_i q0; injection q0 with q1 q2; subst q1; subst q2
      exact hr
    · rename_i q0; injection q0 with q1 q2; subst q1; subst q2
      exact hr
    · rename_i q0; injection q0 with q1 q2; subst q1; subst q2
      exact hr
    · rename_i q0; injection q0 with q1 q2; subst q1; subst q2
      exact hr
    · exact hr.elim
  refine ⟨ru A 8 n w, cIj_new hA hq dm, ru_s, fun r hr => ru_n hr, ?_⟩
  refine cp_chg (X := X) (S := S) (R := R) hA (fun r => r = (8, n)) (fun r' hs _ => ?_) (fun r hs hd => zpu_n (cp_out hA hq hd)) (fun r' hs hr => ⟨dm r' hr hs, ru_n hs, ?_⟩)
  · rw [hs, ru_s, zpu_s]
    show some _ = some (zob 4 [.int (tSt1 X m k p q r s t 8 n), .int (tSt1 X m k p q r s t 9 n), .int (tSt1 X m k p q r s t 10 n), .int (tSt1 X m k p q r s t 11 n), .int (tSt1 X m k p q r s t 12 n), .int (tSt1 X m k p q r s t 13 n), .int (tSt1 X m k p q r s t 14 n), .int (tSt1 X m k p q r s t 15 n)])
    rw [show tSt1 X m k p q r s t 8 n = m from by rw [h7]; exact upd_s]
    rw [show tSt1 X m k p q r s t 9 n = (nI k) from by rw [h7]; exact upd_s]
    rw [show tSt1 X m k p q r s t 10 n = p from by rw [h7]; exact upd_s]
    rw [show tSt1 X m k p q r s t 11 n = q from by rw [h7]; exact upd_s]
    rw [show tSt1 X m k p q r s t 12 n = r from by rw [h7]; exact upd_s]
    rw [show tSt1 X m k p q r s t 13 n = s from by rw [h7]; exact upd_s]
    rw [show tSt1 X m k p q r s t 14 n = t from by rw [h7]; exact upd_s]
    rw [show tSt1 X m k p q r s t 15 n = (-1) from by rw [h7]; exact upd_s]
  · obtain ⟨κ, j⟩ := r'
    unfold cdm at hr
    split at hr
    · rename_i q0; injection q0 with q1 q2; subst q1; subst q2
      exact cct_k0 (congrFun (tSt1_o (by decide)) _) (congrFun (tSt1_o (by decide)) _) (congrFun (tSt1_o (by decide)) _) (congrFun (tSt1_o (by decide)) _) (congrFun (tSt1_o (by decide)) _) (congrFun (tSt1_o (by decide)) _) rfl rfl rfl rfl rfl rfl rfl rfl rfl rfl
    · rename_i q0; injection q0 with q1 q2; subst q1; subst q2
      exact cct_k1 (tSt1_o (by unfold cai; split <;> decide))
    · rename_i q0; injection q0 with q1 q2; subst q1; subst q2
      exact (cct_k2 rfl rfl rfl rfl)
    · rename_i q0; injection q0 with q1 q2; subst q1; subst q2
      exact cct_k3 rfl rfl (fun i hi => ru_i (by omega))
    · rename_i q0; injection q0 with q1 q2; subst q1; subst q2
      exact (cct_k4 rfl rfl rfl rfl)
    · rename_i q0; injection q0 with q1 q2; subst q1; subst q2
      exact (cct_k5 rfl rfl (fun _ _ => rfl))
    · rename_i q0; injection q0 with q1 q2; subst q1; subst q2
      exact (cct_k6 rfl rfl rfl rfl)
    · rename_i q0; injection q0 with q1 q2; subst q1; subst q2
      have hj : j < K 105 0 := hr.1
      exact cct_k7 rfl rfl (fun i hi => ru_i (show K 1000 (100 * j + i) ≠ n from by have := hkk j i hj hi; omega))
    · rename_i q0; injection q0 with q1 q2; subst q1; subst q2
      have nj : j ≠ n := fun z => hs (by rw [z])
      exact cct_k8 (tSt1_n (by omega) _) (tSt1_n (by omega) _) (tSt1_n (by omega) _) (tSt1_n (by omega) _) (tSt1_n (by omega) _) (tSt1_n (by omega) _) (tSt1_n (by omega) _) (tSt1_n (by omega) _)
    · rename_i q0; injection q0 with q1 q2; subst q1; subst q2
      exact (cct_k9 rfl rfl rfl rfl rfl rfl rfl)
    · rename_i q0; injection q0 with q1 q2; subst q1; subst q2
      exact (cct_k10 rfl)
    · rename_i q0; injection q0 with q1 q2; subst q1; subst q2
      exact (cct_k11 rfl rfl)
    · rename_i q0; injection q0 with q1 q2; subst q1; subst q2
      exact (cct_k12 (fun _ => ru_crl (by decide)))
    · rename_i q0; injection q0 with q1 q2; subst q1; subst q2
      exact (cct_k19 rfl rfl rfl rfl)
    · rename_i q0; injection q0 with q1 q2; subst q1; subst q2
      exact (cct_k20 rfl rfl)
    · rename_i q0; injection q0 with q1 q2; subst q1; subst q2
      exact (cct_k21 (fun _ => rfl))
    · rename_i q0; injection q0 with q1 q2; subst q1; subst q2
      exact (cct_k22 rfl rfl rfl)
    · rename_i q0; injection q0 with q1 q2; subst q1; subst q2
      exact (cct_k23 rfl rfl rfl)
    · rename_i q0; injection q0 with q1 q2; subst q1; subst q2
      exact (cct_k24 rfl rfl rfl)
    · rename_i q0; injection q0 with q1 q2; subst q1; subst q2
      exact (cct_k25 rfl rfl rfl)
    · rename_i q0; injection q0 with q1 q2; subst q1; subst q2
      exact (cct_k26 rfl rfl rfl rfl rfl rfl rfl)
    · rename_i q0; injection q0 with q1 q2; subst q1; subst q2
      exact (cct_k27 rfl rfl rfl rfl)
    · rename_i q0; injection q0 with q1 q2; subst q1; subst q2
      exact (cct_k28 rfl rfl (fun _ _ => rfl))
    · rename_i q0; injection q0 with q1 q2; subst q1; subst q2
      exact (cct_k29 rfl rfl)
    · rename_i q0; injection q0 with q1 q2; subst q1; subst q2
      exact (cct_k30 rfl (fun _ _ => rfl))
    · rename_i q0; injection q0 with q1 q2; subst q1; subst q2
      exact (cct_k31 (fun _ _ => rfl))
    · rename_i q0; injection q0 with q1 q2; subst q1; subst q2
      exact (cct_k32 rfl)
    · rename_i q0; injection q0 with q1 q2; subst q1; subst q2
      exact (cct_k33 rfl rfl rfl)
    · rename_i q0; injection q0 with q1 q2; subst q1; subst q2
      exact (cct_k34 (fun _ _ => rfl))
    · rename_i q0; injection q0 with q1 q2; subst q1; subst q2
      by_cases j0 : j = 0
      · subst j0; rfl
      · exact cct_k35 rfl rfl (ru_i (show K 2000 j ≠ n from by have := hby j (by omega) hr.1 hr.2; omega)) rfl
    · rename_i q0; injection q0 with q1 q2; subst q1; subst q2
      exact (cct_k36 (fun _ _ => rfl))
    · exact hr.elim
theorem cp_p8_7 {E : zE} {A : rl → Nat} {K : Nat → Nat → Nat} {X S R : zSt} {j : Nat} {v : Int32} (hA : cIj K A) (hj : j < K 106 0) : zpu (cp E A K X S R) (A (8, j)) (zob 4 [.int (X 8 j), .int (X 9 j), .int (X 10 j), .int (X 11 j), .int (X 12 j), .int (X 13 j), .int (X 14 j), .int v]) = cp E A K (va_up X 15 (upd (X 15) j v)) S R := by
  refine cp_upd [15] hA (k := 8) hj (tsm_up (by decide)) tsm_rf tsm_rf (by decide) ?_ (fun i hi _ => ?_)
  · show zob 4 [.int ((va_up X 15 (upd (X 15) j v)) 8 j), .int ((va_up X 15 (upd (X 15) j v)) 9 j), .int ((va_up X 15 (upd (X 15) j v)) 10 j), .int ((va_up X 15 (upd (X 15) j v)) 11 j), .int ((va_up X 15 (upd (X 15) j v)) 12 j), .int ((va_up X 15 (upd (X 15) j v)) 13 j), .int ((va_up X 15 (upd (X 15) j v)) 14 j), .int ((va_up X 15 (upd (X 15) j v)) 15 j)] = _
    rw [va_up_self, upd_s]
    rfl
  · show zob 4 [.int ((va_up X 15 (upd (X 15) j v)) 8 i), .int ((va_up X 15 (upd (X 15) j v)) 9 i), .int ((va_up X 15 (upd (X 15) j v)) 10 i), .int ((va_up X 15 (upd (X 15) j v)) 11 i), .int ((va_up X 15 (upd (X 15) j v)) 12 i), .int ((va_up X 15 (upd (X 15) j v)) 13 i), .int ((va_up X 15 (upd (X 15) j v)) 14 i), .int ((va_up X 15 (upd (X 15) j v)) 15 i)] = _
    rw [va_up_self, upd_n hi]
    rfl
abbrev rm_P_areGood : Room := { frames := 1, cells := 0, slots := 0, locals := 21 }
set_option maxHeartbeats 4000000 in
set_option maxRecDepth 100000 in
theorem c_P_areGood (l : Launch) (E : zE) {A : rl → Nat} {K : Nat → Nat → Nat} (hA : cIj K A) (X S R : zSt) (k : Nat) (hk : k < 10) (p q r s t : Int32) : zM l E y_P_areGood b_P_areGood 7 ((some .boolean)) rm_P_areGood [.ref (A (0, 0)), .int (nI k), .int p, .int q, .int r, .int s, .int t] (cp E A K X S R) (zPi (bI (tGood X k p q r s t)) (cp E A K X S R)) := by
  refine zM_w (by decide +kernel) rfl rfl (fun sz => ?_)
  rcases (show k = 0 ∨ k = 1 ∨ k = 2 ∨ k = 3 ∨ k = 4 ∨ k = 5 ∨ k = 6 ∨ k = 7 ∨ k = 8 ∨ k = 9 by omega) with rfl | rfl | rfl | rfl | rfl | rfl | rfl | rfl | rfl | rfl
  · refine z_iload_n d_P_areGood_0 rfl ?_
    refine z_tabIn (tgt := 56) d_P_areGood_1 (by decide +kernel) (by decide +kernel) (show _ = some 55 by decide +kernel) (by decide) ?_
    refine z_iload_n d_P_areGood_56 rfl ?_
    refine z_cSi (c_P_isName l E _ _) cb_P_isName cs_P_isName ln_P_85 rfl rfl (zlq rfl) rfl (zlq rfl) (zlq rfl) d_P_areGood_57 ?_
    refine z_if_eq (tgt := 75) d_P_areGood_60 (by decide) (fun c60 => ?_) (fun c60 => ?_)
    · have c60n := bI_e.mp c60
      refine z_iconst d_P_areGood_75 ic_0 ?_
      exact z_zret rfl nz_0 d_P_areGood_76 (zlq rfl) (zlq rfl) (⟨by simp [tGood, bI, nI_0, nI_one, *], rfl⟩)
    · have c60n := bI_n.mp c60
      refine z_aload_n d_P_areGood_63 rfl ?_
      refine z_iload_n d_P_areGood_64 rfl ?_
      refine z_cVi (c_P_isClass l E hA _ _ _ _) cb_P_isClass ci_P_isClass ln_P_72 (cp_0 hA) rfl rfl (zlq rfl) rfl (zlq rfl) (zlq rfl) d_P_areGood_65 ?_
      refine z_if_eq (tgt := 75) d_P_areGood_68 (by decide) (fun c68 => ?_) (fun c68 => ?_)
      · have c68n := bI_e.mp c68
        refine z_iconst d_P_areGood_75 ic_0 ?_
        exact z_zret rfl nz_0 d_P_areGood_76 (zlq rfl) (zlq rfl) (⟨by simp [tGood, bI, nI_0, nI_one, *], rfl⟩)
      · have c68n := bI_n.mp c68
        refine z_iconst d_P_areGood_71 ic_1 ?_
        refine z_goto (tgt := 76) d_P_areGood_72 (by decide) ?_
        exact z_zret rfl nz_1 d_P_areGood_76 (zlq rfl) (zlq rfl) (⟨by simp [tGood, bI, nI_0, nI_one, *], rfl⟩)
  · refine z_iload_n d_P_areGood_0 rfl ?_
    refine z_tabIn (tgt := 77) d_P_areGood_1 (by decide +kernel) (by decide +kernel) (show _ = some 76 by decide +kernel) (by decide) ?_
    refine z_iload_n d_P_areGood_77 rfl ?_
    refine z_cSi (c_P_isName l E _ _) cb_P_isName cs_P_isName ln_P_85 rfl rfl (zlq rfl) rfl (zlq rfl) (zlq rfl) d_P_areGood_78 ?_
    refine z_if_eq (tgt := 95) d_P_areGood_81 (by decide) (fun c81 => ?_) (fun c81 => ?_)
    · have c81n := bI_e.mp c81
      refine z_iconst d_P_areGood_95 ic_0 ?_
      exact z_zret rfl nz_0 d_P_areGood_96 (zlq rfl) (zlq rfl) (⟨by simp [tGood, bI, nI_0, nI_one, *], rfl⟩)
    · have c81n := bI_n.mp c81
      refine z_iload_n d_P_areGood_84 rfl ?_
      refine z_cSi (c_P_isName l E _ _) cb_P_isName cs_P_isName ln_P_85 rfl rfl (zlq rfl) rfl (zlq rfl) (zlq rfl) d_P_areGood_85 ?_
      refine z_if_eq (tgt := 95) d_P_areGood_88 (by decide) (fun c88 => ?_) (fun c88 => ?_)
      · have c88n := bI_e.mp c88
        refine z_iconst d_P_areGood_95 ic_0 ?_
        exact z_zret rfl nz_0 d_P_areGood_96 (zlq rfl) (zlq rfl) (⟨by simp [tGood, bI, nI_0, nI_one, *], rfl⟩)
      · have c88n := bI_n.mp c88
        refine z_iconst d_P_areGood_91 ic_1 ?_
        refine z_goto (tgt := 96) d_P_areGood_92 (by decide) ?_
        exact z_zret rfl nz_1 d_P_areGood_96 (zlq rfl) (zlq rfl) (⟨by simp [tGood, bI, nI_0, nI_one, *], rfl⟩)
  · refine z_iload_n d_P_areGood_0 rfl ?_
    refine z_tabIn (tgt := 97) d_P_areGood_1 (by decide +kernel) (by decide +kernel) (show _ = some 96 by decide +kernel) (by decide) ?_
    refine z_iload_n d_P_areGood_97 rfl ?_
    refine z_cSi (c_P_isName l E _ _) cb_P_isName cs_P_isName ln_P_85 rfl rfl (zlq rfl) rfl (zlq rfl) (zlq rfl) d_P_areGood_98 ?_
    refine z_if_eq (tgt := 124) d_P_areGood_101 (by decide) (fun c101 => ?_) (fun c101 => ?_)
    · have c101n := bI_e.mp c101
      refine z_iconst d_P_areGood_124 ic_0 ?_
      exact z_zret rfl nz_0 d_P_areGood_125 (zlq rfl) (zlq rfl) (⟨by simp [tGood, bI, nI_0, nI_one, *], rfl⟩)
    · have c101n := bI_n.mp c101
      refine z_iload_n d_P_areGood_104 rfl ?_
      refine z_cSi (c_P_isName l E _ _) cb_P_isName cs_P_isName ln_P_85 rfl rfl (zlq rfl) rfl (zlq rfl) (zlq rfl) d_P_areGood_105 ?_
      refine z_if_eq (tgt := 124) d_P_areGood_108 (by decide) (fun c108 => ?_) (fun c108 => ?_)
      · have c108n := bI_e.mp c108
        refine z_iconst d_P_areGood_124 ic_0 ?_
        exact z_zret rfl nz_0 d_P_areGood_125 (zlq rfl) (zlq rfl) (⟨by simp [tGood, bI, nI_0, nI_one, *], rfl⟩)
      · have c108n := bI_n.mp c108
        refine z_aload_n d_P_areGood_111 rfl ?_
        refine z_iload d_P_areGood_112 rfl ?_
        refine z_cVi (c_P_isField l E hA _ _ _ _) cb_P_isField ci_P_isField ln_P_88 (cp_0 hA) rfl rfl (zlq rfl) rfl (zlq rfl) (zlq rfl) d_P_areGood_114 ?_
        refine z_if_eq (tgt := 124) d_P_areGood_117 (by decide) (fun c117 => ?_) (fun c117 => ?_)
        · have c117n := bI_e.mp c117
          refine z_iconst d_P_areGood_124 ic_0 ?_
          exact z_zret rfl nz_0 d_P_areGood_125 (zlq rfl) (zlq rfl) (⟨by simp [tGood, bI, nI_0, nI_one, *], rfl⟩)
        · have c117n := bI_n.mp c117
          refine z_iconst d_P_areGood_120 ic_1 ?_
          refine z_goto (tgt := 125) d_P_areGood_121 (by decide) ?_
          exact z_zret rfl nz_1 d_P_areGood_125 (zlq rfl) (zlq rfl) (⟨by simp [tGood, bI, nI_0, nI_one, *], rfl⟩)
  · refine z_iload_n d_P_areGood_0 rfl ?_
    refine z_tabIn (tgt := 97) d_P_areGood_1 (by decide +kernel) (by decide +kernel) (show _ = some 96 by decide +kernel) (by decide) ?_
    refine z_iload_n d_P_areGood_97 rfl ?_
    refine z_cSi (c_P_isName l E _ _) cb_P_isName cs_P_isName ln_P_85 rfl rfl (zlq rfl) rfl (zlq rfl) (zlq rfl) d_P_areGood_98 ?_
    refine z_if_eq (tgt := 124) d_P_areGood_101 (by decide) (fun c101 => ?_) (fun c101 => ?_)
    · have c101n := bI_e.mp c101
      refine z_iconst d_P_areGood_124 ic_0 ?_
      exact z_zret rfl nz_0 d_P_areGood_125 (zlq rfl) (zlq rfl) (⟨by simp [tGood, bI, nI_0, nI_one, *], rfl⟩)
    · have c101n := bI_n.mp c101
      refine z_iload_n d_P_areGood_104 rfl ?_
      refine z_cSi (c_P_isName l E _ _) cb_P_isName cs_P_isName ln_P_85 rfl rfl (zlq rfl) rfl (zlq rfl) (zlq rfl) d_P_areGood_105 ?_
      refine z_if_eq (tgt := 124) d_P_areGood_108 (by decide) (fun c108 => ?_) (fun c108 => ?_)
      · have c108n := bI_e.mp c108
        refine z_iconst d_P_areGood_124 ic_0 ?_
        exact z_zret rfl nz_0 d_P_areGood_125 (zlq rfl) (zlq rfl) (⟨by simp [tGood, bI, nI_0, nI_one, *], rfl⟩)
      · have c108n := bI_n.mp c108
        refine z_aload_n d_P_areGood_111 rfl ?_
        refine z_iload d_P_areGood_112 rfl ?_
        refine z_cVi (c_P_isField l E hA _ _ _ _) cb_P_isField ci_P_isField ln_P_88 (cp_0 hA) rfl rfl (zlq rfl) rfl (zlq rfl) (zlq rfl) d_P_areGood_114 ?_
        refine z_if_eq (tgt := 124) d_P_areGood_117 (by decide) (fun c117 => ?_) (fun c117 => ?_)
        · have c117n := bI_e.mp c117
          refine z_iconst d_P_areGood_124 ic_0 ?_
          exact z_zret rfl nz_0 d_P_areGood_125 (zlq rfl) (zlq rfl) (⟨by simp [tGood, bI, nI_0, nI_one, *], rfl⟩)
        · have c117n := bI_n.mp c117
          refine z_iconst d_P_areGood_120 ic_1 ?_
          refine z_goto (tgt := 125) d_P_areGood_121 (by decide) ?_
          exact z_zret rfl nz_1 d_P_areGood_125 (zlq rfl) (zlq rfl) (⟨by simp [tGood, bI, nI_0, nI_one, *], rfl⟩)
  · refine z_iload_n d_P_areGood_0 rfl ?_
    refine z_tabIn (tgt := 126) d_P_areGood_1 (by decide +kernel) (by decide +kernel) (show _ = some 125 by decide +kernel) (by decide) ?_
    refine z_iload_n d_P_areGood_126 rfl ?_
    refine z_cSi (c_P_isName l E _ _) cb_P_isName cs_P_isName ln_P_85 rfl rfl (zlq rfl) rfl (zlq rfl) (zlq rfl) d_P_areGood_127 ?_
    refine z_if_eq (tgt := 153) d_P_areGood_130 (by decide) (fun c130 => ?_) (fun c130 => ?_)
    · have c130n := bI_e.mp c130
      refine z_iconst d_P_areGood_153 ic_0 ?_
      exact z_zret rfl nz_0 d_P_areGood_154 (zlq rfl) (zlq rfl) (⟨by simp [tGood, bI, nI_0, nI_one, *], rfl⟩)
    · have c130n := bI_n.mp c130
      refine z_iload_n d_P_areGood_133 rfl ?_
      refine z_cSi (c_P_isName l E _ _) cb_P_isName cs_P_isName ln_P_85 rfl rfl (zlq rfl) rfl (zlq rfl) (zlq rfl) d_P_areGood_134 ?_
      refine z_if_eq (tgt := 153) d_P_areGood_137 (by decide) (fun c137 => ?_) (fun c137 => ?_)
      · have c137n := bI_e.mp c137
        refine z_iconst d_P_areGood_153 ic_0 ?_
        exact z_zret rfl nz_0 d_P_areGood_154 (zlq rfl) (zlq rfl) (⟨by simp [tGood, bI, nI_0, nI_one, *], rfl⟩)
      · have c137n := bI_n.mp c137
        refine z_aload_n d_P_areGood_140 rfl ?_
        refine z_iload d_P_areGood_141 rfl ?_
        refine z_cVi (c_P_isClass l E hA _ _ _ _) cb_P_isClass ci_P_isClass ln_P_72 (cp_0 hA) rfl rfl (zlq rfl) rfl (zlq rfl) (zlq rfl) d_P_areGood_143 ?_
        refine z_if_eq (tgt := 153) d_P_areGood_146 (by decide) (fun c146 => ?_) (fun c146 => ?_)
        · have c146n := bI_e.mp c146
          refine z_iconst d_P_areGood_153 ic_0 ?_
          exact z_zret rfl nz_0 d_P_areGood_154 (zlq rfl) (zlq rfl) (⟨by simp [tGood, bI, nI_0, nI_one, *], rfl⟩)
        · have c146n := bI_n.mp c146
          refine z_iconst d_P_areGood_149 ic_1 ?_
          refine z_goto (tgt := 154) d_P_areGood_150 (by decide) ?_
          exact z_zret rfl nz_1 d_P_areGood_154 (zlq rfl) (zlq rfl) (⟨by simp [tGood, bI, nI_0, nI_one, *], rfl⟩)
  · refine z_iload_n d_P_areGood_0 rfl ?_
    refine z_tabIn (tgt := 155) d_P_areGood_1 (by decide +kernel) (by decide +kernel) (show _ = some 154 by decide +kernel) (by decide) ?_
    refine z_iload_n d_P_areGood_155 rfl ?_
    refine z_cSi (c_P_isName l E _ _) cb_P_isName cs_P_isName ln_P_85 rfl rfl (zlq rfl) rfl (zlq rfl) (zlq rfl) d_P_areGood_156 ?_
    refine z_if_eq (tgt := 173) d_P_areGood_159 (by decide) (fun c159 => ?_) (fun c159 => ?_)
    · have c159n := bI_e.mp c159
      refine z_iconst d_P_areGood_173 ic_0 ?_
      exact z_zret rfl nz_0 d_P_areGood_174 (zlq rfl) (zlq rfl) (⟨by simp [tGood, bI, nI_0, nI_one, *], rfl⟩)
    · have c159n := bI_n.mp c159
      refine z_iload_n d_P_areGood_162 rfl ?_
      refine z_cSi (c_P_isStatic l E _ _) cb_P_isStatic cs_P_isStatic ln_P_91 rfl rfl (zlq rfl) rfl (zlq rfl) (zlq rfl) d_P_areGood_163 ?_
      refine z_if_eq (tgt := 173) d_P_areGood_166 (by decide) (fun c166 => ?_) (fun c166 => ?_)
      · have c166n := bI_e.mp c166
        refine z_iconst d_P_areGood_173 ic_0 ?_
        exact z_zret rfl nz_0 d_P_areGood_174 (zlq rfl) (zlq rfl) (⟨by simp [tGood, bI, nI_0, nI_one, *], rfl⟩)
      · have c166n := bI_n.mp c166
        refine z_iconst d_P_areGood_169 ic_1 ?_
        refine z_goto (tgt := 174) d_P_areGood_170 (by decide) ?_
        exact z_zret rfl nz_1 d_P_areGood_174 (zlq rfl) (zlq rfl) (⟨by simp [tGood, bI, nI_0, nI_one, *], rfl⟩)
  · refine z_iload_n d_P_areGood_0 rfl ?_
    refine z_tabIn (tgt := 175) d_P_areGood_1 (by decide +kernel) (by decide +kernel) (show _ = some 174 by decide +kernel) (by decide) ?_
    refine z_iload_n d_P_areGood_175 rfl ?_
    refine z_cSi (c_P_isStatic l E _ _) cb_P_isStatic cs_P_isStatic ln_P_91 rfl rfl (zlq rfl) rfl (zlq rfl) (zlq rfl) d_P_areGood_176 ?_
    refine z_if_eq (tgt := 193) d_P_areGood_179 (by decide) (fun c179 => ?_) (fun c179 => ?_)
    · have c179n := bI_e.mp c179
      refine z_iconst d_P_areGood_193 ic_0 ?_
      exact z_zret rfl nz_0 d_P_areGood_194 (zlq rfl) (zlq rfl) (⟨by simp [tGood, bI, nI_0, nI_one, *], rfl⟩)
    · have c179n := bI_n.mp c179
      refine z_iload_n d_P_areGood_182 rfl ?_
      refine z_cSi (c_P_isName l E _ _) cb_P_isName cs_P_isName ln_P_85 rfl rfl (zlq rfl) rfl (zlq rfl) (zlq rfl) d_P_areGood_183 ?_
      refine z_if_eq (tgt := 193) d_P_areGood_186 (by decide) (fun c186 => ?_) (fun c186 => ?_)
      · have c186n := bI_e.mp c186
        refine z_iconst d_P_areGood_193 ic_0 ?_
        exact z_zret rfl nz_0 d_P_areGood_194 (zlq rfl) (zlq rfl) (⟨by simp [tGood, bI, nI_0, nI_one, *], rfl⟩)
      · have c186n := bI_n.mp c186
        refine z_iconst d_P_areGood_189 ic_1 ?_
        refine z_goto (tgt := 194) d_P_areGood_190 (by decide) ?_
        exact z_zret rfl nz_1 d_P_areGood_194 (zlq rfl) (zlq rfl) (⟨by simp [tGood, bI, nI_0, nI_one, *], rfl⟩)
  · refine z_iload_n d_P_areGood_0 rfl ?_
    refine z_tabIn (tgt := 195) d_P_areGood_1 (by decide +kernel) (by decide +kernel) (show _ = some 194 by decide +kernel) (by decide) ?_
    refine z_iload_n d_P_areGood_195 rfl ?_
    refine z_cSi (c_P_isName l E _ _) cb_P_isName cs_P_isName ln_P_85 rfl rfl (zlq rfl) rfl (zlq rfl) (zlq rfl) d_P_areGood_196 ?_
    refine z_if_eq (tgt := 229) d_P_areGood_199 (by decide) (fun c199 => ?_) (fun c199 => ?_)
    · have c199n := bI_e.mp c199
      refine z_iconst d_P_areGood_229 ic_0 ?_
      exact z_zret rfl nz_0 d_P_areGood_230 (zlq rfl) (zlq rfl) (⟨by simp [tGood, bI, nI_0, nI_one, *], rfl⟩)
    · have c199n := bI_n.mp c199
      refine z_iload_n d_P_areGood_202 rfl ?_
      refine z_cSi (c_P_isName l E _ _) cb_P_isName cs_P_isName ln_P_85 rfl rfl (zlq rfl) rfl (zlq rfl) (zlq rfl) d_P_areGood_203 ?_
      refine z_if_eq (tgt := 229) d_P_areGood_206 (by decide) (fun c206 => ?_) (fun c206 => ?_)
      · have c206n := bI_e.mp c206
        refine z_iconst d_P_areGood_229 ic_0 ?_
        exact z_zret rfl nz_0 d_P_areGood_230 (zlq rfl) (zlq rfl) (⟨by simp [tGood, bI, nI_0, nI_one, *], rfl⟩)
      · have c206n := bI_n.mp c206
        refine z_iload d_P_areGood_209 rfl ?_
        refine z_cSi (c_P_isName l E _ _) cb_P_isName cs_P_isName ln_P_85 rfl rfl (zlq rfl) rfl (zlq rfl) (zlq rfl) d_P_areGood_211 ?_
        refine z_if_eq (tgt := 229) d_P_areGood_214 (by decide) (fun c214 => ?_) (fun c214 => ?_)
        · have c214n := bI_e.mp c214
          refine z_iconst d_P_areGood_229 ic_0 ?_
          exact z_zret rfl nz_0 d_P_areGood_230 (zlq rfl) (zlq rfl) (⟨by simp [tGood, bI, nI_0, nI_one, *], rfl⟩)
        · have c214n := bI_n.mp c214
          refine z_iload d_P_areGood_217 rfl ?_
          refine z_cSi (c_P_isName l E _ _) cb_P_isName cs_P_isName ln_P_85 rfl rfl (zlq rfl) rfl (zlq rfl) (zlq rfl) d_P_areGood_219 ?_
          refine z_if_eq (tgt := 229) d_P_areGood_222 (by decide) (fun c222 => ?_) (fun c222 => ?_)
          · have c222n := bI_e.mp c222
            refine z_iconst d_P_areGood_229 ic_0 ?_
            exact z_zret rfl nz_0 d_P_areGood_230 (zlq rfl) (zlq rfl) (⟨by simp [tGood, bI, nI_0, nI_one, *], rfl⟩)
          · have c222n := bI_n.mp c222
            refine z_iconst d_P_areGood_225 ic_1 ?_
            refine z_goto (tgt := 230) d_P_areGood_226 (by decide) ?_
            exact z_zret rfl nz_1 d_P_areGood_230 (zlq rfl) (zlq rfl) (⟨by simp [tGood, bI, nI_0, nI_one, *], rfl⟩)
  · refine z_iload_n d_P_areGood_0 rfl ?_
    refine z_tabIn (tgt := 77) d_P_areGood_1 (by decide +kernel) (by decide +kernel) (show _ = some 76 by decide +kernel) (by decide) ?_
    refine z_iload_n d_P_areGood_77 rfl ?_
    refine z_cSi (c_P_isName l E _ _) cb_P_isName cs_P_isName ln_P_85 rfl rfl (zlq rfl) rfl (zlq rfl) (zlq rfl) d_P_areGood_78 ?_
    refine z_if_eq (tgt := 95) d_P_areGood_81 (by decide) (fun c81 => ?_) (fun c81 => ?_)
    · have c81n := bI_e.mp c81
      refine z_iconst d_P_areGood_95 ic_0 ?_
      exact z_zret rfl nz_0 d_P_areGood_96 (zlq rfl) (zlq rfl) (⟨by simp [tGood, bI, nI_0, nI_one, *], rfl⟩)
    · have c81n := bI_n.mp c81
      refine z_iload_n d_P_areGood_84 rfl ?_
      refine z_cSi (c_P_isName l E _ _) cb_P_isName cs_P_isName ln_P_85 rfl rfl (zlq rfl) rfl (zlq rfl) (zlq rfl) d_P_areGood_85 ?_
      refine z_if_eq (tgt := 95) d_P_areGood_88 (by decide) (fun c88 => ?_) (fun c88 => ?_)
      · have c88n := bI_e.mp c88
        refine z_iconst d_P_areGood_95 ic_0 ?_
        exact z_zret rfl nz_0 d_P_areGood_96 (zlq rfl) (zlq rfl) (⟨by simp [tGood, bI, nI_0, nI_one, *], rfl⟩)
      · have c88n := bI_n.mp c88
        refine z_iconst d_P_areGood_91 ic_1 ?_
        refine z_goto (tgt := 96) d_P_areGood_92 (by decide) ?_
        exact z_zret rfl nz_1 d_P_areGood_96 (zlq rfl) (zlq rfl) (⟨by simp [tGood, bI, nI_0, nI_one, *], rfl⟩)
  · refine z_iload_n d_P_areGood_0 rfl ?_
    refine z_tabIn (tgt := 77) d_P_areGood_1 (by decide +kernel) (by decide +kernel) (show _ = some 76 by decide +kernel) (by decide) ?_
    refine z_iload_n d_P_areGood_77 rfl ?_
    refine z_cSi (c_P_isName l E _ _) cb_P_isName cs_P_isName ln_P_85 rfl rfl (zlq rfl) rfl (zlq rfl) (zlq rfl) d_P_areGood_78 ?_
    refine z_if_eq (tgt := 95) d_P_areGood_81 (by decide) (fun c81 => ?_) (fun c81 => ?_)
    · have c81n := bI_e.mp c81
      refine z_iconst d_P_areGood_95 ic_0 ?_
      exact z_zret rfl nz_0 d_P_areGood_96 (zlq rfl) (zlq rfl) (⟨by simp [tGood, bI, nI_0, nI_one, *], rfl⟩)
    · have c81n := bI_n.mp c81
      refine z_iload_n d_P_areGood_84 rfl ?_
      refine z_cSi (c_P_isName l E _ _) cb_P_isName cs_P_isName ln_P_85 rfl rfl (zlq rfl) rfl (zlq rfl) (zlq rfl) d_P_areGood_85 ?_
      refine z_if_eq (tgt := 95) d_P_areGood_88 (by decide) (fun c88 => ?_) (fun c88 => ?_)
      · have c88n := bI_e.mp c88
        refine z_iconst d_P_areGood_95 ic_0 ?_
        exact z_zret rfl nz_0 d_P_areGood_96 (zlq rfl) (zlq rfl) (⟨by simp [tGood, bI, nI_0, nI_one, *], rfl⟩)
      · have c88n := bI_n.mp c88
        refine z_iconst d_P_areGood_91 ic_1 ?_
        refine z_goto (tgt := 96) d_P_areGood_92 (by decide) ?_
        exact z_zret rfl nz_1 d_P_areGood_96 (zlq rfl) (zlq rfl) (⟨by simp [tGood, bI, nI_0, nI_one, *], rfl⟩)
theorem lt4 {g : Int32} : g < nI 4 ↔ g ≤ nI 3 := by rw [Int32.lt_iff_toInt_lt, Int32.le_iff_toInt_le, nI_toInt (by decide), nI_toInt (by decide)]; omega
abbrev rm_P_method : Room := { frames := 7, cells := 2, slots := 120, locals := 171 }
set_option maxHeartbeats 4000000 in
set_option maxRecDepth 100000 in
theorem c_P_method (l : Launch) (E : zE) {A : rl → Nat} {K : Nat → Nat → Nat} (hA : cIj K A) (Z S : zSt) (hX : tInv Z) (hK : kI K Z) (c g : Int32) : zM l E y_P_method b_P_method 4 ((some .int)) rm_P_method [.ref (A (0, 0)), .int c, .int g] (cp E A K Z S Z) (fun v h' => v = some (.int (tMth Z c g).1) ∧ ((tMth Z c g).2 = Z ∧ h' = cp E A K Z S Z ∨ ∃ A' cap, h' = cp E A' (kz (knB (knL K (K 100 0)) (K 100 0) cap)) (tMth Z c g).2 S (tMth Z c g).2 ∧ cIj (kz (knB (knL K (K 100 0)) (K 100 0) cap)) A' ∧ A' (0, 0) = A (0, 0) ∧ K 100 0 + 1 ≤ cap ∧ cap ≤ 90 ∧ 10 ≤ cap ∧ cn Z 4 < 10 ∧ tIn c (Z 0 0) = true ∧ (tMth Z c g).2 = tCh (va_up (va_up (va_up Z 5 (upd (Z 5) (cn Z 4) c)) 6 (upd (Z 6) (cn Z 4) g)) 4 (fun _ => nI (cn Z 4 + 1))))) := by
  refine zM_w (by decide +kernel) rfl rfl (fun sz => ?_)
  obtain ⟨⟨⟨h0, b0⟩, ⟨h2, b2⟩, ⟨h4, b4⟩, ⟨h7, b7⟩, ⟨h16, b16⟩⟩, h18, h19, hp, hf0, hs, hst⟩ := id hX
  obtain ⟨⟨k100, k101, k105, k106⟩, ⟨k1a, k1b, k1c⟩, ⟨k0a, k0b, k0c⟩, hkm, hkk⟩ := id hK
  refine z_aload_n d_P_method_0 rfl ?_
  refine z_iload_n d_P_method_1 rfl ?_
  refine z_cVi (c_P_isClass l E hA _ _ _ _) cb_P_isClass ci_P_isClass ln_P_72 (cp_0 hA) rfl rfl (zlq rfl) rfl (zlq rfl) (zlq rfl) d_P_method_2 ?_
  refine z_if_ne (tgt := 10) d_P_method_5 (by decide) (fun c5 => ?_) (fun c5 => ?_)
  · have c5n := bI_n.mp c5
    refine z_iload_n d_P_method_10 rfl ?_
    refine z_if_lt (tgt := 19) d_P_method_11 (by decide) (fun c11 => ?_) (fun c11 => ?_)
    · refine z_bipush (v := -2) d_P_method_19 bp_m2 ?_
      exact z_iret rfl d_P_method_21 (zlq rfl) (zlq rfl) (by unfold tMth; rw [if_pos c5n, if_pos c11]; exact ⟨rfl, Or.inl ⟨rfl, rfl⟩⟩)
    · refine z_iload_n d_P_method_14 rfl ?_
      refine z_iconst d_P_method_15 ic_4 ?_
      refine z_icmp_lt (tgt := 22) d_P_method_16 (by decide) (fun c16 => ?_) (fun c16 => ?_)
      · refine z_iconst d_P_method_22 ic_0 ?_
        refine z_istore_n d_P_method_23 (zlt rfl) ?_
        have lq : ∀ (d k : Nat), k + d = cn Z 4 → mwf Z c g d k = tMw Z c g → zG (zcx l E b_P_method "PointsToRounds" 4 ((some .int)) false rm_P_method (cp E A K Z S Z) sz (fun v h' => v = some (.int (tMth Z c g).1) ∧ ((tMth Z c g).2 = Z ∧ h' = cp E A K Z S Z ∨ ∃ A' cap, h' = cp E A' (kz (knB (knL K (K 100 0)) (K 100 0) cap)) (tMth Z c g).2 S (tMth Z c g).2 ∧ cIj (kz (knB (knL K (K 100 0)) (K 100 0) cap)) A' ∧ A' (0, 0) = A (0, 0) ∧ K 100 0 + 1 ≤ cap ∧ cap ≤ 90 ∧ 10 ≤ cap ∧ cn Z 4 < 10 ∧ tIn c (Z 0 0) = true ∧ (tMth Z c g).2 = tCh (va_up (va_up (va_up Z 5 (upd (Z 5) (cn Z 4) c)) 6 (upd (Z 6) (cn Z 4) g)) 4 (fun _ => nI (cn Z 4 + 1)))))) 0 0 24 [some (.ref (A (0, 0))), some (.int (c)), some (.int (g)), some (.int (nI (k)))] [] (cp E A K Z S Z) := by
          intro d
          induction d with
          | zero =>
            intro k hk hm
            have htm : tMw Z c g < 0 := by rw [← hm]; exact zneg
            refine z_iload_n d_P_method_24 rfl ?_
            refine z_aload_n d_P_method_25 rfl ?_
            refine z_get fa_P_44 d_P_method_26 (cp_0 hA) rfl ?_
            refine z_top h4 ?_
            refine z_icmp_ge (tgt := 61) d_P_method_29 (by decide) (fun c29 => ?_) (fun c29 => absurd (nI_le (by omega) (by omega)) c29)
            have c29n := (nI_leI (by omega) (by omega)).mp c29
            refine z_aload_n d_P_method_61 rfl ?_
            refine z_get fa_P_44 d_P_method_62 (cp_0 hA) rfl ?_
            refine z_top h4 ?_
            refine z_bipush d_P_method_65 bp_10 ?_
            refine z_icmp_ne (tgt := 73) d_P_method_67 (by decide) (fun c67 => ?_) (fun c67 => ?_)
            · have c67n := (not_congr (nI_eq (by omega) (by omega))).mp c67
              refine z_aload_n d_P_method_73 rfl ?_
              refine z_get fa_P_16 d_P_method_74 (cp_0 hA) rfl ?_
              refine z_aload_n d_P_method_77 rfl ?_
              refine z_get fa_P_44 d_P_method_78 (cp_0 hA) rfl ?_
              refine z_top h4 ?_
              refine z_iload_n d_P_method_81 rfl ?_
              refine z_iast (cn Z 4) d_P_method_82 (cp_1_2 hA) rfl (show cn Z 4 < 10 from by omega) (by decide) ?_
              refine z_eqh (cp_p1_2 hA) ?_
              refine z_aload_n d_P_method_83 rfl ?_
              refine z_get fa_P_19 d_P_method_84 (cp_0 hA) rfl ?_
              refine z_aload_n d_P_method_87 rfl ?_
              refine z_get fa_P_44 d_P_method_88 (cp_0 hA) rfl ?_
              refine z_top (show _ = _ from h4) ?_
              refine z_iload_n d_P_method_91 rfl ?_
              refine z_iast (cn Z 4) d_P_method_92 (cp_1_3 hA) rfl (show cn Z 4 < 10 from by omega) (by decide) ?_
              refine z_eqh (cp_p1_3 hA) ?_
              refine z_aload_n d_P_method_93 rfl ?_
              refine z_get fa_P_29 d_P_method_94 (cp_0 hA) rfl ?_
              refine z_new nw_P_22 d_P_method_97 (zlq rfl) (zlq rfl) (fun q hq => ?_)
              refine z_dup d_P_method_100 rfl ?_
              refine z_cIv (c_AL_init l E _ _ zpu_s) cb_AL_init ii_AL_init ln_P_24 rfl rfl (zlq rfl) rfl (zlq rfl) (zlq rfl) d_P_method_101 ?_
              refine z_eqh zpu_pu ?_
              obtain ⟨A1, hA1, rfl, hr1, hle⟩ := cp_newL hA (K 100 0) (by omega) (Nat.le_refl _) q hq
              rw [← hr1 (0, 0) (fun z => by injection z with z1; exact absurd z1 (by decide)), ← hr1 (4, 0) (fun z => by injection z with z1; exact absurd z1 (by decide))]
              refine z_le hle ?_
              refine z_callF (c_addB l E hA1 _ _ _ (K 100 0) rfl (show K 100 0 ≤ K 1 0 from k1a) (show K 1 0 ≤ 90 by omega) (by omega) k1c (show K 100 0 < K 100 0 + 1 by omega)) cb_AL_add0 cf_add k_337 (cp_4 hA1) rfl rfl (zlq rfl) rfl (zlq rfl) (zlq rfl) d_P_method_104 (fun v h' hv => ?_)
              obtain ⟨rfl, A2, cap, hA2, hr2, d1, d2, d3, rfl⟩ := hv
              have e0 : A2 (0, 0) = A (0, 0) := (hr2 (0, 0) (fun z => by injection z with z1; exact absurd z1 (by decide))).trans (hr1 (0, 0) (fun z => by injection z with z1; exact absurd z1 (by decide)))
              rw [← hr2 (0, 0) (fun z => by injection z with z1; exact absurd z1 (by decide))]
              have hA := hA2
              refine z_pop d_P_method_109 rfl ?_
              refine z_aload_n d_P_method_110 rfl ?_
              refine z_cVv (c_P_change l E hA _ _ _ (tMth Z c g).2) cb_P_change ci_P_change ln_P_76 (cp_0 hA) rfl rfl (zlq rfl) rfl (zlq rfl) (zlq rfl) d_P_method_111 ?_
              have hA := cIj_mono hA (fun _ r => cdm_kz r)
              refine z_aload_n d_P_method_114 rfl ?_
              refine z_dup d_P_method_115 rfl ?_
              refine z_get fa_P_44 d_P_method_116 (cp_0 hA) rfl ?_
              refine z_top (show _ = _ from h4) ?_
              refine z_dup_x1 d_P_method_119 rfl rfl ?_
              refine z_iconst d_P_method_120 ic_1 ?_
              refine z_iadd d_P_method_121 ?_
              refine z_top (nI_add (cn Z 4) (1)) ?_
              refine z_put fp_P_44 d_P_method_122 (cp_0 hA) (vp_nar_int _) rfl (zlt rfl) ?_
              refine z_eqh (cp_p0_6 hA) ?_
              exact z_iret rfl d_P_method_125 (zlq rfl) (zlq rfl) (by unfold tMth; rw [if_pos c5n, if_neg c11, if_pos (lt4.mp c16), if_pos htm, if_neg c67]; exact ⟨rfl, Or.inr ⟨A2, cap, cp_eqX (r20 rfl rfl rfl rfl rfl rfl rfl rfl rfl rfl rfl rfl rfl rfl rfl rfl rfl rfl rfl) (fun _ _ => rfl), hA, (by first | exact e0 | rfl), d1, d2, d3, by omega, c5n, rfl⟩⟩)
            · have c67n := (nI_eq (by omega) (by omega)).mp c67
              refine z_bipush (v := -4) d_P_method_70 bp_m4 ?_
              exact z_iret rfl d_P_method_72 (zlq rfl) (zlq rfl) (by unfold tMth; rw [if_pos c5n, if_neg c11, if_pos (lt4.mp c16), if_pos htm, if_pos c67]; exact ⟨rfl, Or.inl ⟨rfl, rfl⟩⟩)
          | succ d ihd =>
            intro k hk hm
            refine z_iload_n d_P_method_24 rfl ?_
            refine z_aload_n d_P_method_25 rfl ?_
            refine z_get fa_P_44 d_P_method_26 (cp_0 hA) rfl ?_
            refine z_top h4 ?_
            refine z_icmp_ge (tgt := 61) d_P_method_29 (by decide) (fun c29 => absurd c29 (nI_ge (by omega) (by omega))) (fun c29 => ?_)
            have c29n := (not_congr (nI_leI (by omega) (by omega))).mp c29
            refine z_aload_n d_P_method_32 rfl ?_
            refine z_get fa_P_16 d_P_method_33 (cp_0 hA) rfl ?_
            refine z_iload_n d_P_method_36 rfl ?_
            refine z_iald (k) d_P_method_37 (cp_1_2 hA) rfl (show k < 10 from by omega) (by decide) ?_
            refine z_iload_n d_P_method_38 rfl ?_
            refine z_icmp_ne (tgt := 55) d_P_method_39 (by decide) (fun c39 => ?_) (fun c39 => ?_)
            · refine z_iinc (v := nI (k + 1)) d_P_method_55 (zlt rfl) rfl (zinc _) ?_
              refine z_goto (tgt := 24) d_P_method_58 (by decide) ?_
              refine ihd (k + 1) (by omega) ?_
              rw [← hm, mwf, if_neg c39]
            · refine z_aload_n d_P_method_42 rfl ?_
              refine z_get fa_P_19 d_P_method_43 (cp_0 hA) rfl ?_
              refine z_iload_n d_P_method_46 rfl ?_
              refine z_iald (k) d_P_method_47 (cp_1_3 hA) rfl (show k < 10 from by omega) (by decide) ?_
              refine z_iload_n d_P_method_48 rfl ?_
              refine z_icmp_ne (tgt := 55) d_P_method_49 (by decide) (fun c49 => ?_) (fun c49 => ?_)
              · refine z_iinc (v := nI (k + 1)) d_P_method_55 (zlt rfl) rfl (zinc _) ?_
                refine z_goto (tgt := 24) d_P_method_58 (by decide) ?_
                refine ihd (k + 1) (by omega) ?_
                rw [← hm, mwf, if_pos c39, if_neg c49]
              · refine z_bipush (v := -3) d_P_method_52 bp_m3 ?_
                exact z_iret rfl d_P_method_54 (zlq rfl) (zlq rfl) (by unfold tMth; rw [if_pos c5n, if_neg c11, if_pos (lt4.mp c16), if_neg (by rw [← hm, mwf, if_pos c39, if_pos c49]; exact nI_pos (by omega))]; exact ⟨rfl, Or.inl ⟨rfl, rfl⟩⟩)
        exact lq (cn Z 4) 0 (by omega) rfl
      · refine z_bipush (v := -2) d_P_method_19 bp_m2 ?_
        exact z_iret rfl d_P_method_21 (zlq rfl) (zlq rfl) (by unfold tMth; rw [if_pos c5n, if_neg c11, if_neg (fun z => c16 (lt4.mpr z))]; exact ⟨rfl, Or.inl ⟨rfl, rfl⟩⟩)
  · have c5n := bI_e.mp c5
    refine z_iconst (v := -1) d_P_method_8 ic_m1 ?_
    exact z_iret rfl d_P_method_9 (zlq rfl) (zlq rfl) (by unfold tMth; rw [if_neg (zbf c5n)]; exact ⟨rfl, Or.inl ⟨rfl, rfl⟩⟩)
