/-! the component: frames, the pile -/
theorem zc_in {R : zSt} {w a v : Nat} : ∀ N, (zit (fun k Y => cu Y w (a + k) (-1)) N R) w v = if a ≤ v ∧ v < a + N then -1 else R w v := by
  intro N
  induction N with
  | zero => rw [if_neg (by omega)]; rfl
  | succ N ih =>
    show cu (zit (fun k Y => cu Y w (a + k) (-1)) N R) w (a + N) (-1) w v = _
    by_cases c : v = a + N
    · rw [c, cu_s, if_pos (by omega)]
    · rw [cu_i c, ih]
      by_cases d : a ≤ v ∧ v < a + N
      · rw [if_pos d, if_pos (by omega)]
      · rw [if_neg d, if_neg (by omega)]
theorem zc_o {R : zSt} {w a b : Nat} (hb : b ≠ w) : ∀ N, (zit (fun k Y => cu Y w (a + k) (-1)) N R) b = R b := by
  intro N
  induction N with
  | zero => rfl
  | succ N ih => exact (cu_o hb).trans ih
def mkF (R : zSt) (n : Nat) (m c t : Int32) : zSt := zit (fun k Y => cu Y 41 (6 * n + k) (-1)) 6 (cu (cu (cu R 38 n m) 39 n c) 40 n t)
theorem mkF_b {R : zSt} {n : Nat} {m c t : Int32} {b : Nat} (h1 : b ≠ 38) (h2 : b ≠ 39) (h3 : b ≠ 40) (h4 : b ≠ 41) : mkF R n m c t b = R b := by
  unfold mkF
  rw [zc_o h4, cu_o h3, cu_o h2, cu_o h1]
abbrev knF (K : Nat → Nat → Nat) (n e : Nat) : Nat → Nat → Nat := ku (ku K 108 0 (n + 1)) 2000 n e
set_option maxRecDepth 100000 in
theorem cp_newF {E : zE} {A : rl → Nat} {K : Nat → Nat → Nat} (hA : cIj K A) {X S R : zSt} (hf : K 109 0 ≠ 0) (m c t : Int32) (e n : Nat) (hn : n = K 108 0) (h103 : K 103 0 ≤ n) (h17 : K 103 0 ≤ 16) (bv : Value) (hb : bv = if n = 0 then .null else .ref (A (8, e))) (q1 q2 : Nat) (e0 : va_E) (h1 : cp E A K X S R q1 = none) (h2 : zpu (cp E A K X S R) q1 e0 q2 = none) : ∃ A', cIj (knF K n e) A' ∧ A' (35, n) = q1 ∧ A' (36, n) = q2 ∧ (∀ r, r ≠ (35, n) → r ≠ (36, n) → A' r = A r) ∧ zle (cp E A' (knF K n e) X S (mkF R n m c t)) (zpu (zpu (zpu (cp E A K X S R) q1 e0) q2 (zeT E 6 (fun _ => none))) q1 (zob 6 [.int m, .int c, bv, .ref q2])) := by
  have n12 : q1 ≠ q2 := fun z => by rw [← z, zpu_s] at h2; cases h2
  have h2' : cp E A K X S R q2 = none := by rw [zpu_n (Ne.symm n12)] at h2; exact h2
  have dm : ∀ r, cdm (knF K n e) r → r ≠ (35, n) → r ≠ (36, n) → cdm K r := by
    intro r hr hs1 hs2
    obtain ⟨k, j⟩ := r
    unfold cdm at hr
    split at hr
    · rename_i q0; injection q0 with q1 q2; subst q1; subst q2
      exact hr
    · rename_i q0; injection q0 with q1 q2; subst q1; subst q2
      exact hr
    · rename_i q0; injection q0 with q1 q2; subst q1; subst q2
      exact hr
    · rename_i q0; injection q0 with q1 q2; subst q1; subst q2
      exact hr
    · rename_i q0; injection q0 with q1 q2; subst q1; subst q2
      exact hr
    · rename_i q0; injection q0 with q1 q2; subst q1; subst q2
      exact hr
    · rename_i q0; injection q0 with q1 q2; subst q1; subst q2
      exact hr
    · rename_i q0; injection q0 with q1 q2; subst q1; subst q2
      exact hr
    · rename_i q0; injection q0 with q1 q2; subst q1; subst q2
      exact hr
    · rename_i q0; injection q0 with q1 q2; subst q1; subst q2
      exact hr
    · rename_i q0; injection q0 with q1 q2; subst q1; subst q2
      exact hr
    · rename_i q0; injection q0 with q1 q2; subst q1; subst q2
      exact hr
    · rename_i q0; injection q0 with q1 q2; subst q1; subst q2
      exact hr
    · rename_i q0; injection q0 with q1 q2; subst q1; subst q2
      exact hr
    · rename_i q0; injection q0 with q1 q2; subst q1; subst q2
      exact hr
    · rename_i q0; injection q0 with q1 q2; subst q1; subst q2
      exact hr
    · rename_i q0; injection q0 with q1 q2; subst q1; subst q2
      exact hr
    · rename_i q0; injection q0 with q1 q2; subst q1; subst q2
      exact hr
    · rename_i q0; injection q0 with q1 q2; subst q1; subst q2
      exact hr
    · rename_i q0; injection q0 with q1 q2; subst q1; subst q2
      exact hr
    · rename_i q0; injection q0 with q1 q2; subst q1; subst q2
      exact hr
    · rename_i q0; injection q0 with q1 q2; subst q1; subst q2
      exact hr
    · rename_i q0; injection q0 with q1 q2; subst q1; subst q2
      exact hr
    · rename_i q0; injection q0 with q1 q2; subst q1; subst q2
      exact hr
    · rename_i q0; injection q0 with q1 q2; subst q1; subst q2
      exact hr
    · rename_i q0; injection q0 with q1 q2; subst q1; subst q2
      exact hr
    · rename_i q0; injection q0 with q1 q2; subst q1; subst q2
      exact hr
    · rename_i q0; injection q0 with q1 q2; subst q1; subst q2
      exact hr
    · rename_i q0; injection q0 with q1 q2; subst q1; subst q2
      exact hr
    · rename_i q0; injection q0 with q1 q2; subst q1; subst q2
      have nj : j ≠ n := fun z => hs1 (by rw [z])
      have hr' : j < n + 1 := hr.1
      exact ⟨by omega, hf⟩
    · rename_i q0; injection q0 with q1 q2; subst q1; subst q2
      have nj : j ≠ n := fun z => hs2 (by rw [z])
      have hr' : j < n + 1 := hr.1
      exact ⟨by omega, hf⟩
    · exact hr.elim
  have an : (ru (ru A 35 n q1) 36 n q2) (35, n) = q1 := (ru_n (fun z => by injection z with z1; exact absurd z1 (by decide))).trans ru_s
  have a35 : ∀ o, o ≠ n → (ru (ru A 35 n q1) 36 n q2) (35, o) = A (35, o) := fun o ho => (ru_n (fun z => by injection z with z1; exact absurd z1 (by decide))).trans (ru_i ho)
  have m41 : ∀ j i, mkF R n m c t 41 (6 * j + i) = if 6 * n ≤ 6 * j + i ∧ 6 * j + i < 6 * n + 6 then -1 else R 41 (6 * j + i) := fun j i => by unfold mkF; rw [zc_in]; rfl
  have m38 : ∀ j, j ≠ n → mkF R n m c t 38 j = R 38 j := fun j hj => by unfold mkF; rw [zc_o (by decide) (b := 38), cu_o (by decide), cu_o (by decide), cu_i hj]
  have m39 : ∀ j, j ≠ n → mkF R n m c t 39 j = R 39 j := fun j hj => by unfold mkF; rw [zc_o (by decide) (b := 39), cu_o (by decide), cu_i hj, cu_o (by decide)]
  have m38n : mkF R n m c t 38 n = m := by unfold mkF; rw [zc_o (by decide) (b := 38), cu_o (by decide), cu_o (by decide), cu_s]
  have m39n : mkF R n m c t 39 n = c := by unfold mkF; rw [zc_o (by decide) (b := 39), cu_o (by decide), cu_s]
  have k2 : ∀ j, j ≠ n → knF K n e 2000 j = K 2000 j := fun j hj => by simp [ku, hj]
  have k2n : knF K n e 2000 n = e := by simp [ku]
  refine ⟨(ru (ru A 35 n q1) 36 n q2), cIj_new2 hA h1 h2' n12 (by decide) dm, an, ru_s, fun r hr1 hr2 => (ru_n hr2).trans (ru_n hr1), ?_⟩
  refine cp_chg (X := X) (S := S) (R := R) hA (fun r => r = (35, n) ∨ r = (36, n)) (fun r hs _ => ?_) (fun r hs hd => ?_) (fun r hs hr => ⟨dm r hr (fun z => hs (Or.inl z)) (fun z => hs (Or.inr z)), (ru_n (fun z => hs (Or.inr z))).trans (ru_n (fun z => hs (Or.inl z))), ?_⟩)
  · rcases hs with rfl | rfl
    · rw [an, zpu_s]
      show some _ = some (zob 6 [.int (mkF R n m c t 38 n), .int (mkF R n m c t 39 n), (if n = 0 then .null else .ref ((ru (ru A 35 n q1) 36 n q2) (8, knF K n e 2000 n))), .ref ((ru (ru A 35 n q1) 36 n q2) (36, n))])
      rw [m38n, m39n, k2n, ru_s, show (ru (ru A 35 n q1) 36 n q2) (8, e) = A (8, e) from rfl, ← hb]
    · rw [ru_s, zpu_n (Ne.symm n12), zpu_s]
      show some _ = some (zeT E 6 (fun i => if i < 6 then thr (ru (ru A 35 n q1) 36 n q2) (mkF R n m c t 41 (6 * n + i)) else none))
      have e : (fun i => if i < 6 then thr (ru (ru A 35 n q1) 36 n q2) (mkF R n m c t 41 (6 * n + i)) else none) = (fun _ => none) := by
        funext i
        by_cases c : i < 6
        · rw [if_pos c, m41, if_pos (by omega), thr_m1]
        · rw [if_neg c]
      rw [e]
  · rw [zpu_n (cp_out hA h1 hd), zpu_n (cp_out hA h2' hd), zpu_n (cp_out hA h1 hd)]
  · obtain ⟨k, j⟩ := r
    unfold cdm at hr
    split at hr
    · rename_i q0; injection q0 with q1 q2; subst q1; subst q2
      exact (cct_k0 rfl rfl rfl rfl rfl rfl rfl rfl rfl rfl rfl rfl rfl rfl rfl rfl)
    · rename_i q0; injection q0 with q1 q2; subst q1; subst q2
      exact (cct_k1 rfl)
    · rename_i q0; injection q0 with q1 q2; subst q1; subst q2
      exact (cct_k2 rfl rfl rfl rfl)
    · rename_i q0; injection q0 with q1 q2; subst q1; subst q2
      exact (cct_k3 rfl rfl (fun _ _ => rfl))
    · rename_i q0; injection q0 with q1 q2; subst q1; subst q2
      exact (cct_k4 rfl rfl rfl rfl)
    · rename_i q0; injection q0 with q1 q2; subst q1; subst q2
      exact (cct_k5 rfl rfl (fun _ _ => rfl))
    · rename_i q0; injection q0 with q1 q2; subst q1; subst q2
      exact (cct_k6 rfl rfl rfl rfl)
    · rename_i q0; injection q0 with q1 q2; subst q1; subst q2
      exact (cct_k7 rfl rfl (fun _ _ => rfl))
    · rename_i q0; injection q0 with q1 q2; subst q1; subst q2
      exact (cct_k8 rfl rfl rfl rfl rfl rfl rfl rfl)
    · rename_i q0; injection q0 with q1 q2; subst q1; subst q2
      exact (cct_k9 rfl rfl rfl rfl rfl rfl rfl)
    · rename_i q0; injection q0 with q1 q2; subst q1; subst q2
      exact (cct_k10 rfl)
    · rename_i q0; injection q0 with q1 q2; subst q1; subst q2
      exact (cct_k11 rfl rfl)
    · rename_i q0; injection q0 with q1 q2; subst q1; subst q2
      exact (cct_k12 (fun _ => (ru_crl (by decide)).trans (ru_crl (by decide))))
    · rename_i q0; injection q0 with q1 q2; subst q1; subst q2
      exact (cct_k19 rfl rfl rfl rfl)
    · rename_i q0; injection q0 with q1 q2; subst q1; subst q2
      exact (cct_k20 rfl rfl)
    · rename_i q0; injection q0 with q1 q2; subst q1; subst q2
      exact (cct_k21 (fun _ => rfl))
    · rename_i q0; injection q0 with q1 q2; subst q1; subst q2
      exact (cct_k22 rfl rfl rfl)
    · rename_i q0; injection q0 with q1 q2; subst q1; subst q2
      exact (cct_k23 rfl rfl rfl)
    · rename_i q0; injection q0 with q1 q2; subst q1; subst q2
      exact (cct_k24 rfl rfl rfl)
    · rename_i q0; injection q0 with q1 q2; subst q1; subst q2
      exact (cct_k25 rfl rfl rfl)
    · rename_i q0; injection q0 with q1 q2; subst q1; subst q2
      exact cct_k26 (congrFun (mkF_b (by decide) (by decide) (by decide) (by decide)) _) (congrFun (mkF_b (by decide) (by decide) (by decide) (by decide)) _) rfl rfl rfl rfl rfl
    · rename_i q0; injection q0 with q1 q2; subst q1; subst q2
      exact (cct_k27 rfl rfl rfl rfl)
    · rename_i q0; injection q0 with q1 q2; subst q1; subst q2
      exact (cct_k28 rfl rfl (fun _ _ => rfl))
    · rename_i q0; injection q0 with q1 q2; subst q1; subst q2
      exact (cct_k29 rfl rfl)
    · rename_i q0; injection q0 with q1 q2; subst q1; subst q2
      exact cct_k30 rfl (fun i hi => a35 i (by omega))
    · rename_i q0; injection q0 with q1 q2; subst q1; subst q2
      exact cct_k31 (fun i hi => by rw [mkF_b (by decide) (by decide) (by decide) (by decide)]; rfl)
    · rename_i q0; injection q0 with q1 q2; subst q1; subst q2
      exact cct_k32 (mkF_b (by decide) (by decide) (by decide) (by decide))
    · rename_i q0; injection q0 with q1 q2; subst q1; subst q2
      exact cct_k33 (congrFun (mkF_b (by decide) (by decide) (by decide) (by decide)) _) rfl (by rw [mkF_b (by decide) (by decide) (by decide) (by decide)]; rfl)
    · rename_i q0; injection q0 with q1 q2; subst q1; subst q2
      exact cct_k34 (fun i hi => by rw [mkF_b (by decide) (by decide) (by decide) (by decide)]; rfl)
    · rename_i q0; injection q0 with q1 q2; subst q1; subst q2
      have nj : j ≠ n := fun z => hs (Or.inl (by rw [z]))
      exact cct_k35 (m38 j nj) (m39 j nj) (by rw [k2 j nj]; rfl) (ru_i nj)
    · rename_i q0; injection q0 with q1 q2; subst q1; subst q2
      have nj : j ≠ n := fun z => hs (Or.inr (by rw [z]))
      exact cct_k36 (fun i hi => by rw [m41, if_neg (by omega)]; rfl)
    · exact hr.elim
theorem cp_push {E : zE} {A : rl → Nat} {K : Nat → Nat → Nat} (hA : cIj K A) {X S R : zSt} (hf : K 109 0 ≠ 0) (n : Nat) (hn : K 103 0 = n) (h9 : n ≤ 9) : zle (cp E A (ku K 103 0 (n + 1)) X S R) (zpu (zpu (cp E A K X S R) (A (30, 0)) (zeO E 17 (va_up (fun x => if 17 - K 103 0 ≤ x ∧ x < 17 then some (A (35, 16 - x)) else none) (16 - n) (some (A (35, n)))))) (A (29, 0)) (zob 10 [.ref (A (30, 0)), .int (nI (16 - n)), .int (nI 0)])) := by
  have dl : cdm K (29, 0) := ⟨rfl, hf⟩
  have dA : cdm K (30, 0) := ⟨rfl, hf⟩
  have nla : A (30, 0) ≠ A (29, 0) := fun z => by have := hA _ _ dA dl z; injection this with z1; exact absurd z1 (by decide)
  refine cp_chg (X := X) (S := S) (R := R) hA (fun r => r = (29, 0) ∨ r = (30, 0)) (fun r hs _ => ?_) (fun r hs hd => ?_) (fun r hs hr => ?_)
  · rcases hs with rfl | rfl
    · rw [zpu_s]
      show some _ = some (zob 10 [.ref (A (30, 0)), .int (nI (chd (n + 1))), .int (nI 0)])
      rw [show chd (n + 1) = 16 - n by unfold chd; split <;> omega]
    · rw [zpu_n nla, zpu_s]
      show some _ = some (zeO E 17 (fun x => if 17 - (n + 1) ≤ x ∧ x < 17 then some (A (35, 16 - x)) else none))
      have e : va_up (fun x => if 17 - K 103 0 ≤ x ∧ x < 17 then some (A (35, 16 - x)) else none) (16 - n) (some (A (35, n))) = (fun x => if 17 - (n + 1) ≤ x ∧ x < 17 then some (A (35, 16 - x)) else none) := by
        funext x
        unfold va_up
        by_cases c : x = 16 - n
        · rw [if_pos c, if_pos (by omega), show 16 - x = n by omega]
        · rw [if_neg c]
          dsimp only
          by_cases d : 17 - (n + 1) ≤ x ∧ x < 17
          · rw [if_pos d, if_pos (by omega)]
          · rw [if_neg d, if_neg (by omega)]
      rw [e]
  · rw [zpu_n (fun z => hs (Or.inl (hA _ _ hd dl z))), zpu_n (fun z => hs (Or.inr (hA _ _ hd dA z)))]
  · refine ⟨?_, rfl, ?_⟩
    · obtain ⟨k, j⟩ := r
      unfold cdm at hr
      split at hr
      · rename_i q0; injection q0 with q1 q2; subst q1; subst q2
        exact hr
      · rename_i q0; injection q0 with q1 q2; subst q1; subst q2
        exact hr
      · rename_i q0; injection q0 with q1 q2; subst q1; subst q2
        exact hr
      · rename_i q0; injection q0 with q1 q2; subst q1; subst q2
        exact hr
      · rename_i q0; injection q0 with q1 q2; subst q1; subst q2
        exact hr
      · rename_i q0; injection q0 with q1 q2; subst q1; subst q2
        exact hr
      · rename_i q0; injection q0 with q1 q2; subst q1; subst q2
        exact hr
      · rename_i q0; injection q0 with q1 q2; subst q1; subst q2
        exact hr
      · rename_i q0; injection q0 with q1 q2; subst q1; subst q2
        exact hr
      · rename_i q0; injection q0 with q1 q2; subst q1; subst q2
        exact hr
      · rename_i q0; injection q0 with q1 q2; subst q1; subst q2
        exact hr
      · rename_i q0; injection q0 with q1 q2; subst q1; subst q2
        exact hr
      · rename_i q0; injection q0 with q1 q2; subst q1; subst q2
        exact hr
      · rename_i q0; injection q0 with q1 q2; subst q1; subst q2
        exact hr
      · rename_i q0; injection q0 with q1 q2; subst q1; subst q2
        exact hr
      · rename_i q0; injection q0 with q1 q2; subst q1; subst q2
        exact hr
      · rename_i q0; injection q0 with q1 q2; subst q1; subst q2
        exact hr
      · rename_i q0; injection q0 with q1 q2; subst q1; subst q2
        exact hr
      · rename_i q0; injection q0 with q1 q2; subst q1; subst q2
        exact hr
      · rename_i q0; injection q0 with q1 q2; subst q1; subst q2
        exact hr
      · rename_i q0; injection q0 with q1 q2; subst q1; subst q2
        exact hr
      · rename_i q0; injection q0 with q1 q2; subst q1; subst q2
        exact hr
      · rename_i q0; injection q0 with q1 q2; subst q1; subst q2
        exact hr
      · rename_i q0; injection q0 with q1 q2; subst q1; subst q2
        exact hr
      · rename_i q0; injection q0 with q1 q2; subst q1; subst q2
        exact hr
      · rename_i q0; injection q0 with q1 q2; subst q1; subst q2
        exact hr
      · rename_i q0; injection q0 with q1 q2; subst q1; subst q2
        exact hr
      · rename_i q0; injection q0 with q1 q2; subst q1; subst q2
        exact hr
      · rename_i q0; injection q0 with q1 q2; subst q1; subst q2
        exact hr
      · rename_i q0; injection q0 with q1 q2; subst q1; subst q2
        exact hr
      · rename_i q0; injection q0 with q1 q2; subst q1; subst q2
        exact hr
      · exact hr.elim
    · obtain ⟨k, j⟩ := r
      unfold cdm at hr
      split at hr
      · rename_i q0; injection q0 with q1 q2; subst q1; subst q2
        exact (cct_k0 rfl rfl rfl rfl rfl rfl rfl rfl rfl rfl rfl rfl rfl rfl rfl rfl)
      · rename_i q0; injection q0 with q1 q2; subst q1; subst q2
        exact (cct_k1 rfl)
      · rename_i q0; injection q0 with q1 q2; subst q1; subst q2
        exact (cct_k2 rfl rfl rfl rfl)
      · rename_i q0; injection q0 with q1 q2; subst q1; subst q2
        exact (cct_k3 rfl rfl (fun _ _ => rfl))
      · rename_i q0; injection q0 with q1 q2; subst q1; subst q2
        exact (cct_k4 rfl rfl rfl rfl)
      · rename_i q0; injection q0 with q1 q2; subst q1; subst q2
        exact (cct_k5 rfl rfl (fun _ _ => rfl))
      · rename_i q0; injection q0 with q1 q2; subst q1; subst q2
        exact (cct_k6 rfl rfl rfl rfl)
      · rename_i q0; injection q0 with q1 q2; subst q1; subst q2
        exact (cct_k7 rfl rfl (fun _ _ => rfl))
      · rename_i q0; injection q0 with q1 q2; subst q1; subst q2
        exact (cct_k8 rfl rfl rfl rfl rfl rfl rfl rfl)
      · rename_i q0; injection q0 with q1 q2; subst q1; subst q2
        exact (cct_k9 rfl rfl rfl rfl rfl rfl rfl)
      · rename_i q0; injection q0 with q1 q2; subst q1; subst q2
        exact (cct_k10 rfl)
      · rename_i q0; injection q0 with q1 q2; subst q1; subst q2
        exact (cct_k11 rfl rfl)
      · rename_i q0; injection q0 with q1 q2; subst q1; subst q2
        exact (cct_k12 (fun _ => rfl))
      · rename_i q0; injection q0 with q1 q2; subst q1; subst q2
        exact (cct_k19 rfl rfl rfl rfl)
      · rename_i q0; injection q0 with q1 q2; subst q1; subst q2
        exact (cct_k20 rfl rfl)
      · rename_i q0; injection q0 with q1 q2; subst q1; subst q2
        exact (cct_k21 (fun _ => rfl))
      · rename_i q0; injection q0 with q1 q2; subst q1; subst q2
        exact (cct_k22 rfl rfl rfl)
      · rename_i q0; injection q0 with q1 q2; subst q1; subst q2
        exact (cct_k23 rfl rfl rfl)
      · rename_i q0; injection q0 with q1 q2; subst q1; subst q2
        exact (cct_k24 rfl rfl rfl)
      · rename_i q0; injection q0 with q1 q2; subst q1; subst q2
        exact (cct_k25 rfl rfl rfl)
      · rename_i q0; injection q0 with q1 q2; subst q1; subst q2
        exact (cct_k26 rfl rfl rfl rfl rfl rfl rfl)
      · rename_i q0; injection q0 with q1 q2; subst q1; subst q2
        exact (cct_k27 rfl rfl rfl rfl)
      · rename_i q0; injection q0 with q1 q2; subst q1; subst q2
        exact (cct_k28 rfl rfl (fun _ _ => rfl))
      · rename_i q0; injection q0 with q1 q2; subst q1; subst q2
        exact absurd (by rw [show j = 0 from hr.1]; exact Or.inl rfl) hs
      · rename_i q0; injection q0 with q1 q2; subst q1; subst q2
        exact absurd (by rw [show j = 0 from hr.1]; exact Or.inr rfl) hs
      · rename_i q0; injection q0 with q1 q2; subst q1; subst q2
        exact (cct_k31 (fun _ _ => rfl))
      · rename_i q0; injection q0 with q1 q2; subst q1; subst q2
        exact (cct_k32 rfl)
      · rename_i q0; injection q0 with q1 q2; subst q1; subst q2
        exact (cct_k33 rfl rfl rfl)
      · rename_i q0; injection q0 with q1 q2; subst q1; subst q2
        exact (cct_k34 (fun _ _ => rfl))
      · rename_i q0; injection q0 with q1 q2; subst q1; subst q2
        exact (cct_k35 rfl rfl rfl rfl)
      · rename_i q0; injection q0 with q1 q2; subst q1; subst q2
        exact (cct_k36 (fun _ _ => rfl))
      · exact hr.elim
/-- a frame is taken off -/
theorem cdm_drop {K : Nat → Nat → Nat} {n : Nat} (h8 : n ≤ K 108 0) {r : rl} (hr : cdm (ku K 108 0 n) r) : cdm K r := by
  obtain ⟨k, j⟩ := r
  unfold cdm at hr
  split at hr
  · rename_i q0; injection q0 with q1 q2; subst q1; subst q2
    exact hr
  · rename_i q0; injection q0 with q1 q2; subst q1; subst q2
    exact hr
  · rename_i q0; injection q0 with q1 q2; subst q1; subst q2
    exact hr
  · rename_i q0; injection q0 with q1 q2; subst q1; subst q2
    exact hr
  · rename_i q0; injection q0 with q1 q2; subst q1; subst q2
    exact hr
  · rename_i q0; injection q0 with q1 q2; subst q1; subst q2
    exact hr
  · rename_i q0; injection q0 with q1 q2; subst q1; subst q2
    exact hr
  · rename_i q0; injection q0 with q1 q2; subst q1; subst q2
    exact hr
  · rename_i q0; injection q0 with q1 q2; subst q1; subst q2
    exact hr
  · rename_i q0; injection q0 with q1 q2; subst q1; subst q2
    exact hr
  · rename_i q0; injection q0 with q1 q2; subst q1; subst q2
    exact hr
  · rename_i q0; injection q0 with q1 q2; subst q1; subst q2
    exact hr
  · rename_i q0; injection q0 with q1 q2; subst q1; subst q2
    exact hr
  · rename_i q0; injection q0 with q1 q2; subst q1; subst q2
    exact hr
  · rename_i q0; injection q0 with q1 q2; subst q1; subst q2
    exact hr
  · rename_i q0; injection q0 with q1 q2; subst q1; subst q2
    exact hr
  · rename_i q0; injection q0 with q1 q2; subst q1; subst q2
    exact hr
  · rename_i q0; injection q0 with q1 q2; subst q1; subst q2
    exact hr
  · rename_i q0; injection q0 with q1 q2; subst q1; subst q2
    exact hr
  · rename_i q0; injection q0 with q1 q2; subst q1; subst q2
    exact hr
  · rename_i q0; injection q0 with q1 q2; subst q1; subst q2
    exact hr
  · rename_i q0; injection q0 with q1 q2; subst q1; subst q2
    exact hr
  · rename_i q0; injection q0 with q1 q2; subst q1; subst q2
    exact hr
  · rename_i q0; injection q0 with q1 q2; subst q1; subst q2
    exact hr
  · rename_i q0; injection q0 with q1 q2; subst q1; subst q2
    exact hr
  · rename_i q0; injection q0 with q1 q2; subst q1; subst q2
    exact hr
  · rename_i q0; injection q0 with q1 q2; subst q1; subst q2
    exact hr
  · rename_i q0; injection q0 with q1 q2; subst q1; subst q2
    exact hr
  · rename_i q0; injection q0 with q1 q2; subst q1; subst q2
    exact hr
  · rename_i q0; injection q0 with q1 q2; subst q1; subst q2
    have h0 : j < n := hr.1
    exact ⟨by omega, hr.2⟩
  · rename_i q0; injection q0 with q1 q2; subst q1; subst q2
    have h0 : j < n := hr.1
    exact ⟨by omega, hr.2⟩
  · exact hr.elim
theorem cp_drop {E : zE} {A : rl → Nat} {K : Nat → Nat → Nat} (hA : cIj K A) {X S R : zSt} {n : Nat} (h8 : n ≤ K 108 0) : zle (cp E A (ku K 108 0 n) X S R) (cp E A K X S R) := by
  refine cp_chg (X := X) (S := S) (R := R) hA (fun _ => False) (fun r hs _ => hs.elim) (fun r hs hd => rfl) (fun r hs hr => ⟨cdm_drop h8 hr, rfl, ?_⟩)
  obtain ⟨k, j⟩ := r
  unfold cdm at hr
  split at hr
  · rename_i q0; injection q0 with q1 q2; subst q1; subst q2
    exact (cct_k0 rfl rfl rfl rfl rfl rfl rfl rfl rfl rfl rfl rfl rfl rfl rfl rfl)
  · rename_i q0; injection q0 with q1 q2; subst q1; subst q2
    exact (cct_k1 rfl)
  · rename_i q0; injection q0 with q1 q2; subst q1; subst q2
    exact (cct_k2 rfl rfl rfl rfl)
  · rename_i q0; injection q0 with q1 q2; subst q1; subst q2
    exact (cct_k3 rfl rfl (fun _ _ => rfl))
  · rename_i q0; injection q0 with q1 q2; subst q1; subst q2
    exact (cct_k4 rfl rfl rfl rfl)
  · rename_i q0; injection q0 with q1 q2; subst q1; subst q2
    exact (cct_k5 rfl rfl (fun _ _ => rfl))
  · rename_i q0; injection q0 with q1 q2; subst q1; subst q2
    exact (cct_k6 rfl rfl rfl rfl)
  · rename_i q0; injection q0 with q1 q2; subst q1; subst q2
    exact (cct_k7 rfl rfl (fun _ _ => rfl))
  · rename_i q0; injection q0 with q1 q2; subst q1; subst q2
    exact (cct_k8 rfl rfl rfl rfl rfl rfl rfl rfl)
  · rename_i q0; injection q0 with q1 q2; subst q1; subst q2
    exact (cct_k9 rfl rfl rfl rfl rfl rfl rfl)
  · rename_i q0; injection q0 with q1 q2; subst q1; subst q2
    exact (cct_k10 rfl)
  · rename_i q0; injection q0 with q1 q2; subst q1; subst q2
    exact (cct_k11 rfl rfl)
  · rename_i q0; injection q0 with q1 q2; subst q1; subst q2
    exact (cct_k12 (fun _ => rfl))
  · rename_i q0; injection q0 with q1 q2; subst q1; subst q2
    exact (cct_k19 rfl rfl rfl rfl)
  · rename_i q0; injection q0 with q1 q2; subst q1; subst q2
    exact (cct_k20 rfl rfl)
  · rename_i q0; injection q0 with q1 q2; subst q1; subst q2
    exact (cct_k21 (fun _ => rfl))
  · rename_i q0; injection q0 with q1 q2; subst q1; subst q2
    exact (cct_k22 rfl rfl rfl)
  · rename_i q0; injection q0 with q1 q2; subst q1; subst q2
    exact (cct_k23 rfl rfl rfl)
  · rename_i q0; injection q0 with q1 q2; subst q1; subst q2
    exact (cct_k24 rfl rfl rfl)
  · rename_i q0; injection q0 with q1 q2; subst q1; subst q2
    exact (cct_k25 rfl rfl rfl)
  · rename_i q0; injection q0 with q1 q2; subst q1; subst q2
    exact (cct_k26 rfl rfl rfl rfl rfl rfl rfl)
  · rename_i q0; injection q0 with q1 q2; subst q1; subst q2
    exact (cct_k27 rfl rfl rfl rfl)
  · rename_i q0; injection q0 with q1 q2; subst q1; subst q2
    exact (cct_k28 rfl rfl (fun _ _ => rfl))
  · rename_i q0; injection q0 with q1 q2; subst q1; subst q2
    exact (cct_k29 rfl rfl)
  · rename_i q0; injection q0 with q1 q2; subst q1; subst q2
    exact (cct_k30 rfl (fun _ _ => rfl))
  · rename_i q0; injection q0 with q1 q2; subst q1; subst q2
    exact (cct_k31 (fun _ _ => rfl))
  · rename_i q0; injection q0 with q1 q2; subst q1; subst q2
    exact (cct_k32 rfl)
  · rename_i q0; injection q0 with q1 q2; subst q1; subst q2
    exact (cct_k33 rfl rfl rfl)
  · rename_i q0; injection q0 with q1 q2; subst q1; subst q2
    exact (cct_k34 (fun _ _ => rfl))
  · rename_i q0; injection q0 with q1 q2; subst q1; subst q2
    exact (cct_k35 rfl rfl rfl rfl)
  · rename_i q0; injection q0 with q1 q2; subst q1; subst q2
    exact (cct_k36 (fun _ _ => rfl))
  · exact hr.elim
theorem cp_pop {E : zE} {A : rl → Nat} {K : Nat → Nat → Nat} (hA : cIj K A) {X S R : zSt} (hf : K 109 0 ≠ 0) (n : Nat) (hn : K 103 0 = n + 1) (h1 : 1 ≤ n) (h9 : n ≤ 9) : zle (cp E A (ku K 103 0 n) X S R) (zpu (zpu (cp E A K X S R) (A (30, 0)) (zeO E 17 (va_up (fun x => if 17 - K 103 0 ≤ x ∧ x < 17 then some (A (35, 16 - x)) else none) (16 - n) none))) (A (29, 0)) (zob 10 [.ref (A (30, 0)), .int (nI (16 - n + 1)), .int (nI 0)])) := by
  have dl : cdm K (29, 0) := ⟨rfl, hf⟩
  have dA : cdm K (30, 0) := ⟨rfl, hf⟩
  have nla : A (30, 0) ≠ A (29, 0) := fun z => by have := hA _ _ dA dl z; injection this with z1; exact absurd z1 (by decide)
  refine cp_chg (X := X) (S := S) (R := R) hA (fun r => r = (29, 0) ∨ r = (30, 0)) (fun r hs _ => ?_) (fun r hs hd => ?_) (fun r hs hr => ?_)
  · rcases hs with rfl | rfl
    · rw [zpu_s]
      show some _ = some (zob 10 [.ref (A (30, 0)), .int (nI (chd (n))), .int (nI 0)])
      rw [show chd (n) = 16 - n + 1 by unfold chd; split <;> omega]
    · rw [zpu_n nla, zpu_s]
      show some _ = some (zeO E 17 (fun x => if 17 - (n) ≤ x ∧ x < 17 then some (A (35, 16 - x)) else none))
      have e : va_up (fun x => if 17 - K 103 0 ≤ x ∧ x < 17 then some (A (35, 16 - x)) else none) (16 - n) none = (fun x => if 17 - n ≤ x ∧ x < 17 then some (A (35, 16 - x)) else none) := by
        funext x
        unfold va_up
        by_cases c : x = 16 - n
        · rw [if_pos c, if_neg (by omega)]
        · rw [if_neg c]
          dsimp only
          by_cases d : 17 - n ≤ x ∧ x < 17
          · rw [if_pos d, if_pos (by omega)]
          · rw [if_neg d, if_neg (by omega)]
      rw [e]
  · rw [zpu_n (fun z => hs (Or.inl (hA _ _ hd dl z))), zpu_n (fun z => hs (Or.inr (hA _ _ hd dA z)))]
  · refine ⟨?_, rfl, ?_⟩
    · obtain ⟨k, j⟩ := r
      unfold cdm at hr
      split at hr
      · rename_i q0; injection q0 with q1 q2; subst q1; subst q2
        exact hr
      · rename_i q0; injection q0 with q1 q2; subst q1; subst q2
        exact hr
      · rename_i q0; injection q0 with q1 q2; subst q1; subst q2
        exact hr
      · rename_i q0; injection q0 with q1 q2; subst q1; subst q2
        exact hr
      · rename_i q0; injection q0 with q1 q2; subst q1; subst q2
        exact hr
      · rename_i q0; injection q0 with q1 q2; subst q1; subst q2
        exact hr
      · rename_i q0; injection q0 with q1 q2; subst q1; subst q2
        exact hr
      · rename_i q0; injection q0 with q1 q2; subst q1; subst q2
        exact hr
      · rename_i q0; injection q0 with q1 q2; subst q1; subst q2
        exact hr
      · rename_i q0; injection q0 with q1 q2; subst q1; subst q2
        exact hr
      · rename_i q0; injection q0 with q1 q2; subst q1; subst q2
        exact hr
      · rename_i q0; injection q0 with q1 q2; subst q1; subst q2
        exact hr
      · rename_i q0; injection q0 with q1 q2; subst q1; subst q2
        exact hr
      · rename_i q0; injection q0 with q1 q2; subst q1; subst q2
        exact hr
      · rename_i q0; injection q0 with q1 q2; subst q1; subst q2
        exact hr
      · rename_i q0; injection q0 with q1 q2; subst q1; subst q2
        exact hr
      · rename_i q0; injection q0 with q1 q2; subst q1; subst q2
        exact hr
      · rename_i q0; injection q0 with q1 q2; subst q1; subst q2
        exact hr
      · rename_i q0; injection q0 with q1 q2; subst q1; subst q2
        exact hr
      · rename_i q0; injection q0 with q1 q2; subst q1; subst q2
        exact hr
      · rename_i q0; injection q0 with q1 q2; subst q1; subst q2
        exact hr
      · rename_i q0; injection q0 with q1 q2; subst q1; subst q2
        exact hr
      · rename_i q0; injection q0 with q1 q2; subst q1; subst q2
        exact hr
      · rename_i q0; injection q0 with q1 q2; subst q1; subst q2
        exact hr
      · rename_i q0; injection q0 with q1 q2; subst q1; subst q2
        exact hr
      · rename_i q0; injection q0 with q1 q2; subst q1; subst q2
        exact hr
      · rename_i q0; injection q0 with q1 q2; subst q1; subst q2
        exact hr
      · rename_i q0; injection q0 with q1 q2; subst q1; subst q2
        exact hr
      · rename_i q0; injection q0 with q1 q2; subst q1; subst q2
        exact hr
      · rename_i q0; injection q0 with q1 q2; subst q1; subst q2
        exact hr
      · rename_i q0; injection q0 with q1 q2; subst q1; subst q2
        exact hr
      · exact hr.elim
    · obtain ⟨k, j⟩ := r
      unfold cdm at hr
      split at hr
      · rename_i q0; injection q0 with q1 q2; subst q1; subst q2
        exact (cct_k0 rfl rfl rfl rfl rfl rfl rfl rfl rfl rfl rfl rfl rfl rfl rfl rfl)
      · rename_i q0; injection q0 with q1 q2; subst q1; subst q2
        exact (cct_k1 rfl)
      · rename_i q0; injection q0 with q1 q2; subst q1; subst q2
        exact (cct_k2 rfl rfl rfl rfl)
      · rename_i q0; injection q0 with q1 q2; subst q1; subst q2
        exact (cct_k3 rfl rfl (fun _ _ => rfl))
      · rename_i q0; injection q0 with q1 q2; subst q1; subst q2
        exact (cct_k4 rfl rfl rfl rfl)
      · rename_i q0; injection q0 with q1 q2; subst q1; subst q2
        exact (cct_k5 rfl rfl (fun _ _ => rfl))
      · rename_i q0; injection q0 with q1 q2; subst q1; subst q2
        exact (cct_k6 rfl rfl rfl rfl)
      · rename_i q0; injection q0 with q1 q2; subst q1; subst q2
        exact (cct_k7 rfl rfl (fun _ _ => rfl))
      · rename_i q0; injection q0 with q1 q2; subst q1; subst q2
        exact (cct_k8 rfl rfl rfl rfl rfl rfl rfl rfl)
      · rename_i q0; injection q0 with q1 q2; subst q1; subst q2
        exact (cct_k9 rfl rfl rfl rfl rfl rfl rfl)
      · rename_i q0; injection q0 with q1 q2; subst q1; subst q2
        exact (cct_k10 rfl)
      · rename_i q0; injection q0 with q1 q2; subst q1; subst q2
        exact (cct_k11 rfl rfl)
      · rename_i q0; injection q0 with q1 q2; subst q1; subst q2
        exact (cct_k12 (fun _ => rfl))
      · rename_i q0; injection q0 with q1 q2; subst q1; subst q2
        exact (cct_k19 rfl rfl rfl rfl)
      · rename_i q0; injection q0 with q1 q2; subst q1; subst q2
        exact (cct_k20 rfl rfl)
      · rename_i q0; injection q0 with q1 q2; subst q1; subst q2
        exact (cct_k21 (fun _ => rfl))
      · rename_i q0; injection q0 with q1 q2; subst q1; subst q2
        exact (cct_k22 rfl rfl rfl)
      · rename_i q0; injection q0 with q1 q2; subst q1; subst q2
        exact (cct_k23 rfl rfl rfl)
      · rename_i q0; injection q0 with q1 q2; subst q1; subst q2
        exact (cct_k24 rfl rfl rfl)
      · rename_i q0; injection q0 with q1 q2; subst q1; subst q2
        exact (cct_k25 rfl rfl rfl)
      · rename_i q0; injection q0 with q1 q2; subst q1; subst q2
        exact (cct_k26 rfl rfl rfl rfl rfl rfl rfl)
      · rename_i q0; injection q0 with q1 q2; subst q1; subst q2
        exact (cct_k27 rfl rfl rfl rfl)
      · rename_i q0; injection q0 with q1 q2; subst q1; subst q2
        exact (cct_k28 rfl rfl (fun _ _ => rfl))
      · rename_i q0; injection q0 with q1 q2; subst q1; subst q2
        exact absurd (by rw [show j = 0 from hr.1]; exact Or.inl rfl) hs
      · rename_i q0; injection q0 with q1 q2; subst q1; subst q2
        exact absurd (by rw [show j = 0 from hr.1]; exact Or.inr rfl) hs
      · rename_i q0; injection q0 with q1 q2; subst q1; subst q2
        exact (cct_k31 (fun _ _ => rfl))
      · rename_i q0; injection q0 with q1 q2; subst q1; subst q2
        exact (cct_k32 rfl)
      · rename_i q0; injection q0 with q1 q2; subst q1; subst q2
        exact (cct_k33 rfl rfl rfl)
      · rename_i q0; injection q0 with q1 q2; subst q1; subst q2
        exact (cct_k34 (fun _ _ => rfl))
      · rename_i q0; injection q0 with q1 q2; subst q1; subst q2
        exact (cct_k35 rfl rfl rfl rfl)
      · rename_i q0; injection q0 with q1 q2; subst q1; subst q2
        exact (cct_k36 (fun _ _ => rfl))
      · exact hr.elim
theorem cIj_103 {A : rl → Nat} {K : Nat → Nat → Nat} {n : Nat} (hA : cIj K A) : cIj (ku K 103 0 n) A := cIj_mono hA (fun r hr => by
  obtain ⟨k, j⟩ := r
  unfold cdm at hr
  split at hr
  · rename_i q0; injection q0 with q1 q2; subst q1; subst q2
    exact hr
  · rename_i q0; injection q0 with q1 q2; subst q1; subst q2
    exact hr
  · rename_i q0; injection q0 with q1 q2; subst q1; subst q2
    exact hr
  · rename_i q0; injection q0 with q1 q2; subst q1; subst q2
    exact hr
  · rename_i q0; injection q0 with q1 q2; subst q1; subst q2
    exact hr
  · rename_i q0; injection q0 with q1 q2; subst q1; subst q2
    exact hr
  · rename_i q0; injection q0 with q1 q2; subst q1; subst q2
    exact hr
  · rename_i q0; injection q0 with q1 q2; subst q1; subst q2
    exact hr
  · rename_i q0; injection q0 with q1 q2; subst q1; subst q2
    exact hr
  · rename_i q0; injection q0 with q1 q2; subst q1; subst q2
    exact hr
  · rename_i q0; injection q0 with q1 q2; subst q1; subst q2
    exact hr
  · rename_i q0; injection q0 with q1 q2; subst q1; subst q2
    exact hr
  · rename_i q0; injection q0 with q1 q2; subst q1; subst q2
    exact hr
  · rename_i q0; injection q0 with q1 q2; subst q1; subst q2
    exact hr
  · rename_i q0; injection q0 with q1 q2; subst q1; subst q2
    exact hr
  · rename_i q0; injection q0 with q1 q2; subst q1; subst q2
    exact hr
  · rename_i q0; injection q0 with q1 q2; subst q1; subst q2
    exact hr
  · rename_i q0; injection q0 with q1 q2; subst q1; subst q2
    exact hr
  · rename_i q0; injection q0 with q1 q2; subst q1; subst q2
    exact hr
  · rename_i q0; injection q0 with q1 q2; subst q1; subst q2
    exact hr
  · rename_i q0; injection q0 with q1 q2; subst q1; subst q2
    exact hr
  · rename_i q0; injection q0 with q1 q2; subst q1; subst q2
    exact hr
  · rename_i q0; injection q0 with q1 q2; subst q1; subst q2
    exact hr
  · rename_i q0; injection q0 with q1 q2; subst q1; subst q2
    exact hr
  · rename_i q0; injection q0 with q1 q2; subst q1; subst q2
    exact hr
  · rename_i q0; injection q0 with q1 q2; subst q1; subst q2
    exact hr
  · rename_i q0; injection q0 with q1 q2; subst q1; subst q2
    exact hr
  · rename_i q0; injection q0 with q1 q2; subst q1; subst q2
    exact hr
  · rename_i q0; injection q0 with q1 q2; subst q1; subst q2
    exact hr
  · rename_i q0; injection q0 with q1 q2; subst q1; subst q2
    exact hr
  · rename_i q0; injection q0 with q1 q2; subst q1; subst q2
    exact hr
  · exact hr.elim)
theorem c_pop (l : Launch) (E : zE) {A : rl → Nat} {K : Nat → Nat → Nat} (hA : cIj K A) (X S R : zSt) (hf : K 109 0 ≠ 0) (n : Nat) (hn : K 103 0 = n + 1) (h1 : 1 ≤ n) (h9 : n ≤ 9) : zM l E y_AD_pop b_AD_pop 1 (some (.object "java/lang/Object")) rm_AD_pop [.ref (A (29, 0))] (cp E A K X S R) (zPr (some (A (35, n))) (cp E A (ku K 103 0 n) X S R)) := by
  have e29 := cp_29 (E := E) (X := X) (S := S) (R := R) hA hf
  rw [show chd (K 103 0) = 16 - n by unfold chd; split <;> omega] at e29
  refine zM_cs (c_AD_pop l E _ _ _ _ _ e29 (cp_30 hA hf) (A (35, n)) (by omega) (by rw [if_pos (by omega), show 16 - (16 - n) = n by omega]) (by omega)) (zlq rfl) (zlq rfl) (zlq rfl) (zlq rfl) (fun v h' hv => ?_)
  obtain ⟨rfl, rfl⟩ := hv
  exact ⟨_, cp_pop hA hf n hn h1 h9, rfl, rfl⟩
theorem c_push (l : Launch) (E : zE) {A : rl → Nat} {K : Nat → Nat → Nat} (hA : cIj K A) (X S R : zSt) (hf : K 109 0 ≠ 0) (n : Nat) (hn : K 103 0 = n) (h9 : n ≤ 9) (h8 : n < K 108 0) : zM l E y_AD_push b_AD_push 2 none rm_AD_push [.ref (A (29, 0)), .ref (A (35, n))] (cp E A K X S R) (zPv (cp E A (ku K 103 0 (n + 1)) X S R)) := by
  refine zM_cs (c_AD_push l E _ _ _ _ _ (cp_29 hA hf) (cp_30 hA hf) (16 - n) (A (35, n)) (by unfold chd; split <;> omega) (by omega) ⟨6, _, (R_Fr, F_Fr, 4), cp_35 hA (j := n) ⟨h8, hf⟩, rfl, k_1157⟩) (zlq rfl) (zlq rfl) (zlq rfl) (zlq rfl) (fun v h' hv => ?_)
  obtain ⟨rfl, rfl⟩ := hv
  exact ⟨_, cp_push hA hf n hn h9, rfl, rfl⟩
abbrev rm_Ru_give : Room := { frames := 4, cells := 0, slots := 0, locals := 85 }
set_option maxHeartbeats 4000000 in
set_option maxRecDepth 100000 in
theorem c_Ru_give (l : Launch) (E : zE) {A : rl → Nat} {K : Nat → Nat → Nat} (hA : cIj K A) (X S R : zSt) (hX : tInv X) (hV : rV X R) (hR : kR K X R) (n : Nat) (hn : cn R 37 = n + 1) (h1 : 1 ≤ n) : zM l E y_Ru_give b_Ru_give 2 (none) rm_Ru_give [.ref (A (26, 0))] (cp E A K X S R) (zPv (cp E A (ku (ku K 103 0 n) 108 0 n) X S (cu R 41 (6 * (n - 1) + ne R 40 n) (R 41 (6 * n + 5))))) := by
  refine zM_w (by decide +kernel) rfl rfl (fun sz => ?_)
  obtain ⟨⟨v37, v37a, v37b⟩, ⟨v32, v32b⟩, vfr, v41, v33, v35, v34, v36⟩ := id hV
  obtain ⟨hf, ⟨k102, k107⟩, ⟨k103, k108⟩, ⟨k20a, k20b, k20c⟩, kby⟩ := id hR
  obtain ⟨-, -, ⟨v40, v40b⟩⟩ := vfr n (by omega)
  obtain ⟨by1, by2⟩ := kby n (by omega) (by omega)
  refine z_aload_n d_Ru_give_0 rfl ?_
  refine z_get fa_Ru_25 d_Ru_give_1 (cp_26 hA hf) rfl ?_
  refine z_cVr (c_pop l E hA _ _ _ hf n (by omega) h1 (by omega)) cb_AD_pop ci_AD_pop ln_Ru_88 (cp_29 hA hf) rfl rfl (zlq rfl) rfl (zlq rfl) (zlq rfl) d_Ru_give_4 ?_
  refine z_rf ?_
  have hA := cIj_103 (n := n) hA
  have hf : ku K 103 0 n 109 0 ≠ 0 := hf
  have u108 : n < ku K 103 0 n 108 0 := by show n < K 108 0; omega
  have u103 : ku K 103 0 n 103 0 = n - 1 + 1 := by show n = n - 1 + 1; omega
  have u107 : cn R 32 ≤ ku K 103 0 n 107 0 := by show cn R 32 ≤ K 107 0; omega
  have u106 : K 2000 n < ku K 103 0 n 106 0 := by1
  have eF := cp_35 (E := E) (X := X) (S := S) (R := R) hA (j := n) ⟨u108, hf⟩
  rw [if_neg (by omega), show ku K 103 0 n 2000 n = K 2000 n from rfl] at eF
  refine z_cast (r := (R_Fr, F_Fr, 4)) rfl k_648 k_1145 eF d_Ru_give_7 ?_
  refine z_astore_n d_Ru_give_10 (zlt rfl) ?_
  refine z_aload_n d_Ru_give_11 rfl ?_
  refine z_get fa_Ru_25 d_Ru_give_12 (cp_26 hA hf) rfl ?_
  refine z_cVr (c_peek l E hA _ _ _ hf (n - 1) u103 (by omega)) cb_AD_peek ci_AD_peek ln_Ru_57 (cp_29 hA hf) rfl rfl (zlq rfl) rfl (zlq rfl) (zlq rfl) d_Ru_give_15 ?_
  refine z_rf ?_
  refine z_cast (r := (R_Fr, F_Fr, 4)) rfl k_648 k_1145 (cp_35 hA (j := n - 1) ⟨by omega, hf⟩) d_Ru_give_18 ?_
  refine z_get fa_Ru_91 d_Ru_give_21 (cp_35 hA (j := n - 1) ⟨by omega, hf⟩) rfl ?_
  refine z_aload_n d_Ru_give_24 rfl ?_
  refine z_get fa_Ru_94 d_Ru_give_25 eF rfl ?_
  refine z_get fa_Ru_98 d_Ru_give_28 (cp_8 hA (j := K 2000 n) (by omega)) rfl ?_
  refine z_top (by2.symm.trans v40) ?_
  refine z_aload_n d_Ru_give_31 rfl ?_
  refine z_get fa_Ru_91 d_Ru_give_32 eF rfl ?_
  refine z_iconst d_Ru_give_35 ic_5 ?_
  refine z_aaldT (5) d_Ru_give_36 (cp_36 hA (j := n) ⟨by omega, hf⟩) rfl (show 5 < 6 by omega) (by decide) ?_
  refine z_q (show _ = thr A (R 41 (6 * n + 5)) from if_pos (show 5 < 6 by omega)) ?_
  refine z_ast36 (j := n - 1) d_Ru_give_37 hA hf (by omega) (i := ne R 40 n) v40b (v41 n (by omega) 5 (by omega)) u107 v32b ?_
  refine z_le (cp_drop (n := n) hA (by omega)) ?_
  exact z_vret rfl d_Ru_give_38 (zlq rfl) (zlq rfl) (⟨rfl, rfl⟩)
