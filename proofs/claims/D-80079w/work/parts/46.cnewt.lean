/-! the component: new things and frames -/
theorem cIj_new2 {E : zE} {A : rl → Nat} {K K' : Nat → Nat → Nat} {X S R : zSt} {k1 j1 q1 k2 j2 q2 : Nat} (hA : cIj K A) (h1 : cp E A K X S R q1 = none) (h2 : cp E A K X S R q2 = none) (hne : q1 ≠ q2) (hk : k1 ≠ k2) (hd : ∀ r, cdm K' r → r ≠ (k1, j1) → r ≠ (k2, j2) → cdm K r) : cIj K' (ru (ru A k1 j1 q1) k2 j2 q2) := by
  have n12 : (k1, j1) ≠ (k2, j2) := fun z => hk (by injection z)
  have ev : ∀ r, cdm K' r → (r = (k1, j1) ∧ ru (ru A k1 j1 q1) k2 j2 q2 r = q1) ∨ (r = (k2, j2) ∧ ru (ru A k1 j1 q1) k2 j2 q2 r = q2) ∨ (cdm K r ∧ ru (ru A k1 j1 q1) k2 j2 q2 r = A r) := by
    intro r hr
    by_cases c1 : r = (k1, j1)
    · left; rw [c1, ru_n n12, ru_s]; exact ⟨rfl, rfl⟩
    · by_cases c2 : r = (k2, j2)
      · right; left; rw [c2, ru_s]; exact ⟨rfl, rfl⟩
      · right; right; rw [ru_n c2, ru_n c1]; exact ⟨hd r hr c1 c2, rfl⟩
  intro i i' hi hi' e
  rcases ev i hi with ⟨a, b⟩ | ⟨a, b⟩ | ⟨a, b⟩ <;> rcases ev i' hi' with ⟨a', b'⟩ | ⟨a', b'⟩ | ⟨a', b'⟩ <;> rw [b, b'] at e
  · rw [a, a']
  · exact absurd e hne
  · exact absurd e.symm (cp_out hA h1 a')
  · exact absurd e.symm hne
  · rw [a, a']
  · exact absurd e.symm (cp_out hA h2 a')
  · exact absurd e (cp_out hA h1 a)
  · exact absurd e (cp_out hA h2 a)
  · exact hA i i' a a' e
theorem thr_c {A A' : rl → Nat} {n : Nat} {x : Int32} (hx : oR n x) (hn : n ≤ 30) (h : ∀ o, o < n → A' (33, o) = A (33, o)) : thr A' x = thr A x := by
  rcases hx with rfl | ⟨o, ho, rfl⟩
  · rw [thr_m1, thr_m1]
  · rw [thr_n (by omega), thr_n (by omega), h o ho]
def mkT (R : zSt) (n : Nat) (s : Int32) : zSt := zit (fun k Y => cu Y 34 (8 * n + k) (-1)) 8 (cu (cu R 33 n s) 35 n (-1))
theorem mkT_34 {R : zSt} {a b v : Nat} : ∀ N, (zit (fun k Y => cu Y 34 (a + k) (-1)) N R) 34 v = if a ≤ v ∧ v < a + N then -1 else R 34 v := by
  intro N
  induction N with
  | zero => rw [if_neg (by omega)]; rfl
  | succ N ih =>
    show cu (zit (fun k Y => cu Y 34 (a + k) (-1)) N R) 34 (a + N) (-1) 34 v = _
    by_cases c : v = a + N
    · rw [c, cu_s, if_pos (by omega)]
    · rw [cu_i c, ih]
      by_cases d : a ≤ v ∧ v < a + N
      · rw [if_pos d, if_pos (by omega)]
      · rw [if_neg d, if_neg (by omega)]
theorem mkT_o {R : zSt} {a b : Nat} (hb : b ≠ 34) : ∀ N, (zit (fun k Y => cu Y 34 (a + k) (-1)) N R) b = R b := by
  intro N
  induction N with
  | zero => rfl
  | succ N ih => exact (cu_o hb).trans ih
theorem mkT_b {R : zSt} {n : Nat} {s : Int32} {b : Nat} (h1 : b ≠ 33) (h2 : b ≠ 34) (h3 : b ≠ 35) : mkT R n s b = R b := by
  unfold mkT
  rw [mkT_o h2, cu_o h3, cu_o h1]
abbrev knO (K : Nat → Nat → Nat) (n : Nat) : Nat → Nat → Nat := ku K 107 0 (n + 1)
set_option maxRecDepth 100000 in
theorem cp_newT {E : zE} {A : rl → Nat} {K : Nat → Nat → Nat} (hA : cIj K A) {X S R : zSt} (hf : K 109 0 ≠ 0) (s : Int32) (n : Nat) (hn : n = K 107 0) (hn3 : n ≤ 29) (h102 : K 102 0 ≤ n) (g41 : ∀ j, j < K 108 0 → ∀ i, i < 6 → oR n (R 41 (6 * j + i))) (g35 : ∀ o, o < n → oR n (R 35 o)) (g34 : ∀ o, o < n → ∀ f, f < 8 → oR n (R 34 (8 * o + f))) (g36 : ∀ s, s < 4 → oR n (R 36 s)) (q1 q2 : Nat) (e0 : va_E) (h1 : cp E A K X S R q1 = none) (h2 : zpu (cp E A K X S R) q1 e0 q2 = none) : ∃ A', cIj (knO K n) A' ∧ A' (33, n) = q1 ∧ A' (34, n) = q2 ∧ (∀ r, r ≠ (33, n) → r ≠ (34, n) → A' r = A r) ∧ zle (cp E A' (knO K n) X S (mkT R n s)) (zpu (zpu (zpu (cp E A K X S R) q1 e0) q2 (zeT E 8 (fun _ => none))) q1 (zob 5 [.int s, .ref q2, .null])) := by
  have n12 : q1 ≠ q2 := fun z => by rw [← z, zpu_s] at h2; cases h2
  have h2' : cp E A K X S R q2 = none := by rw [zpu_n (Ne.symm n12)] at h2; exact h2
  have nr : ∀ j, (33, n) ≠ (34, j) := fun j z => by injection z with z1; exact absurd z1 (by decide)
  have dm : ∀ r, cdm (knO K n) r → r ≠ (33, n) → r ≠ (34, n) → cdm K r := by
    intro r hr hs1 hs2
    obtain ⟨k, j⟩ := r
    unfold cdm at hr
    split at hr
    · rename_i q0; injection q0 with q1 q2; subst q1; subst q2
      exact hr
    · rename_i q0; injection q0 with q1 q2; subst q1; subst q2
      exact hr
    · rename_i q0; injection q0 with q1 q2; subst q1; subst q2
      exact hr
    · rename_i q0; injection q0 with q1 q2; subst q1; subst q2
      exact hr
    · rename_i q0; injection q0 with q1 q2; subst q1; subst q2
      exact hr
    · rename_i q0; injection q0 with q1 q2; subst q1; subst q2
      exact hr
    · rename_i q0; injection q0 with q1 q2; subst q1; subst q2
      exact hr
    · rename_i q0; injection q0 with q1 q2; subst q1; subst q2
      exact hr
    · rename_i q0; injection q0 with q1 q2; subst q1; subst q2
      exact hr
    · rename_i q0; injection q0 with q1 q2; subst q1; subst q2
      exact hr
    · rename_i q0; injection q0 with q1 q2; subst q1; subst q2
      exact hr
    · rename_i q0; injection q0 with q1 q2; subst q1; subst q2
      exact hr
    · rename_i q0; injection q0 with q1 q2; subst q1; subst q2
      exact hr
    · rename_i q0; injection q0 with q1 q2; subst q1; subst q2
      exact hr
    · rename_i q0; injection q0 with q1 q2; subst q1; subst q2
      exact hr
    · rename_i q0; injection q0 with q1 q2; subst q1; subst q2
      exact hr
    · rename_i q0; injection q0 with q1 q2; subst q1; subst q2
      exact hr
    · rename_i q0; injection q0 with q1 q2; subst q1; subst q2
      exact hr
    · rename_i q0; injection q0 with q1 q2; subst q1; subst q2
      exact hr
    · rename_i q0; injection q0 with q1 q2; subst q1; subst q2
      exact hr
    · rename_i q0; injection q0 with q1 q2; subst q1; subst q2
      exact hr
    · rename_i q0; injection q0 with q1 q2; subst q1; subst q2
      exact hr
    · rename_i q0; injection q0 with q1 q2; subst q1; subst q2
      exact hr
    · rename_i q0; injection q0 with q1 q2; subst q1; subst q2
      exact hr
    · rename_i q0; injection q0 with q1 q2; subst q1; subst q2
      exact hr
    · rename_i q0; injection q0 with q1 q2; subst q1; subst q2
      exact hr
    · rename_i q0; injection q0 with q1 q2; subst q1; subst q2
      exact hr
    · rename_i q0; injection q0 with q1 q2; subst q1; subst q2
      have nj : j ≠ n := fun z => hs1 (by rw [z])
      have hr' : j < n + 1 := hr.1
      exact ⟨by omega, hf⟩
    · rename_i q0; injection q0 with q1 q2; subst q1; subst q2
      have nj : j ≠ n := fun z => hs2 (by rw [z])
      have hr' : j < n + 1 := hr.1
      exact ⟨by omega, hf⟩
    · rename_i q0; injection q0 with q1 q2; subst q1; subst q2
      exact hr
    · rename_i q0; injection q0 with q1 q2; subst q1; subst q2
      exact hr
    · exact hr.elim
  have a33 : ∀ o, o ≠ n → (ru (ru A 33 n q1) 34 n q2) (33, o) = A (33, o) := fun o ho => (ru_n (fun z => by injection z with z1; exact absurd z1 (by decide))).trans (ru_i ho)
  have an : (ru (ru A 33 n q1) 34 n q2) (33, n) = q1 := (ru_n (fun z => by injection z with z1; exact absurd z1 (by decide))).trans ru_s
  have ta : ∀ x, oR n x → thr (ru (ru A 33 n q1) 34 n q2) x = thr A x := fun x hx => thr_c hx (by omega) (fun o ho => a33 o (by omega))
  have m34 : ∀ j i, mkT R n s 34 (8 * j + i) = if 8 * n ≤ 8 * j + i ∧ 8 * j + i < 8 * n + 8 then -1 else R 34 (8 * j + i) := fun j i => by unfold mkT; rw [mkT_34 (b := 0)]; rfl
  have m33 : ∀ j, j ≠ n → mkT R n s 33 j = R 33 j := fun j hj => by unfold mkT; rw [mkT_o (by decide) (b := 33), cu_o (by decide), cu_i hj]
  have m35 : ∀ j, j ≠ n → mkT R n s 35 j = R 35 j := fun j hj => by unfold mkT; rw [mkT_o (by decide) (b := 35), cu_i hj, cu_o (by decide)]
  have m33n : mkT R n s 33 n = s := by unfold mkT; rw [mkT_o (by decide) (b := 33), cu_o (by decide), cu_s]
  have m35n : mkT R n s 35 n = -1 := by unfold mkT; rw [mkT_o (by decide) (b := 35), cu_s]
  refine ⟨(ru (ru A 33 n q1) 34 n q2), cIj_new2 hA h1 h2' n12 (by decide) dm, an, ru_s, fun r hr1 hr2 => (ru_n hr2).trans (ru_n hr1), ?_⟩
  refine cp_chg (X := X) (S := S) (R := R) hA (fun r => r = (33, n) ∨ r = (34, n)) (fun r hs _ => ?_) (fun r hs hd => ?_) (fun r hs hr => ⟨dm r hr (fun z => hs (Or.inl z)) (fun z => hs (Or.inr z)), (ru_n (fun z => hs (Or.inr z))).trans (ru_n (fun z => hs (Or.inl z))), ?_⟩)
  · rcases hs with rfl | rfl
    · rw [an, zpu_s]
      show some _ = some (zob 5 [.int (mkT R n s 33 n), .ref ((ru (ru A 33 n q1) 34 n q2) (34, n)), va_rf (thr (ru (ru A 33 n q1) 34 n q2) (mkT R n s 35 n))])
      rw [m33n, m35n, thr_m1, ru_s]
      rfl
    · rw [ru_s, zpu_n (Ne.symm n12), zpu_s]
      show some _ = some (zeT E 8 (fun i => if i < 8 then thr (ru (ru A 33 n q1) 34 n q2) (mkT R n s 34 (8 * n + i)) else none))
      have e : (fun i => if i < 8 then thr (ru (ru A 33 n q1) 34 n q2) (mkT R n s 34 (8 * n + i)) else none) = (fun _ => none) := by
        funext i
        by_cases c : i < 8
        · rw [if_pos c, m34, if_pos (by omega), thr_m1]
        · rw [if_neg c]
      rw [e]
  · rw [zpu_n (cp_out hA h1 hd), zpu_n (cp_out hA h2' hd), zpu_n (cp_out hA h1 hd)]
  · obtain ⟨k, j⟩ := r
    unfold cdm at hr
    split at hr
    · rename_i q0; injection q0 with q1 q2; subst q1; subst q2
      exact (cct_k0 rfl rfl rfl rfl rfl rfl rfl rfl rfl rfl rfl rfl rfl rfl rfl rfl)
    · rename_i q0; injection q0 with q1 q2; subst q1; subst q2
      exact (cct_k1 rfl)
    · rename_i q0; injection q0 with q1 q2; subst q1; subst q2
      exact (cct_k2 rfl rfl rfl rfl)
    · rename_i q0; injection q0 with q1 q2; subst q1; subst q2
      exact (cct_k3 rfl rfl (fun _ _ => rfl))
    · rename_i q0; injection q0 with q1 q2; subst q1; subst q2
      exact (cct_k4 rfl rfl rfl rfl)
    · rename_i q0; injection q0 with q1 q2; subst q1; subst q2
      exact (cct_k5 rfl rfl (fun _ _ => rfl))
    · rename_i q0; injection q0 with q1 q2; subst q1; subst q2
      exact (cct_k6 rfl rfl rfl rfl)
    · rename_i q0; injection q0 with q1 q2; subst q1; subst q2
      exact (cct_k7 rfl rfl (fun _ _ => rfl))
    · rename_i q0; injection q0 with q1 q2; subst q1; subst q2
      exact (cct_k8 rfl rfl rfl rfl rfl rfl rfl rfl)
    · rename_i q0; injection q0 with q1 q2; subst q1; subst q2
      exact (cct_k9 rfl rfl rfl rfl rfl rfl rfl)
    · rename_i q0; injection q0 with q1 q2; subst q1; subst q2
      exact (cct_k10 rfl)
    · rename_i q0; injection q0 with q1 q2; subst q1; subst q2
      exact (cct_k11 rfl rfl)
    · rename_i q0; injection q0 with q1 q2; subst q1; subst q2
      exact (cct_k12 (fun _ => (ru_crl (by decide)).trans (ru_crl (by decide))))
    · rename_i q0; injection q0 with q1 q2; subst q1; subst q2
      exact (cct_k19 rfl rfl rfl rfl)
    · rename_i q0; injection q0 with q1 q2; subst q1; subst q2
      exact (cct_k20 rfl rfl)
    · rename_i q0; injection q0 with q1 q2; subst q1; subst q2
      exact (cct_k21 (fun _ => rfl))
    · rename_i q0; injection q0 with q1 q2; subst q1; subst q2
      exact (cct_k22 rfl rfl rfl)
    · rename_i q0; injection q0 with q1 q2; subst q1; subst q2
      exact (cct_k23 rfl rfl rfl)
    · rename_i q0; injection q0 with q1 q2; subst q1; subst q2
      exact (cct_k24 rfl rfl rfl)
    · rename_i q0; injection q0 with q1 q2; subst q1; subst q2
      exact (cct_k25 rfl rfl rfl)
    · rename_i q0; injection q0 with q1 q2; subst q1; subst q2
      exact cct_k26 (congrFun (mkT_b (by decide) (by decide) (by decide)) _) (congrFun (mkT_b (by decide) (by decide) (by decide)) _) rfl rfl rfl rfl rfl
    · rename_i q0; injection q0 with q1 q2; subst q1; subst q2
      exact (cct_k27 rfl rfl rfl rfl)
    · rename_i q0; injection q0 with q1 q2; subst q1; subst q2
      exact cct_k28 rfl rfl (fun i hi => a33 i (by omega))
    · rename_i q0; injection q0 with q1 q2; subst q1; subst q2
      exact (cct_k29 rfl rfl)
    · rename_i q0; injection q0 with q1 q2; subst q1; subst q2
      exact (cct_k30 rfl (fun _ _ => rfl))
    · rename_i q0; injection q0 with q1 q2; subst q1; subst q2
      exact cct_k31 (fun i hi => by rw [mkT_b (by decide) (by decide) (by decide)]; exact ta _ (g36 i hi))
    · rename_i q0; injection q0 with q1 q2; subst q1; subst q2
      exact cct_k32 (mkT_b (by decide) (by decide) (by decide))
    · rename_i q0; injection q0 with q1 q2; subst q1; subst q2
      have nj : j ≠ n := fun z => hs (Or.inl (by rw [z]))
      have hr' : j < n + 1 := hr.1
      exact cct_k33 (m33 j nj) (ru_i nj) (by rw [m35 j nj]; exact ta _ (g35 j (by omega)))
    · rename_i q0; injection q0 with q1 q2; subst q1; subst q2
      have nj : j ≠ n := fun z => hs (Or.inr (by rw [z]))
      have hr' : j < n + 1 := hr.1
      exact cct_k34 (fun i hi => by rw [m34, if_neg (by omega)]; exact ta _ (g34 j (by omega) i hi))
    · rename_i q0; injection q0 with q1 q2; subst q1; subst q2
      exact cct_k35 (congrFun (mkT_b (by decide) (by decide) (by decide)) _) (congrFun (mkT_b (by decide) (by decide) (by decide)) _) rfl rfl
    · rename_i q0; injection q0 with q1 q2; subst q1; subst q2
      exact cct_k36 (fun i hi => by rw [mkT_b (by decide) (by decide) (by decide)]; exact ta _ (g41 j hr.1 i hi))
    · exact hr.elim
