/-! the component: Run.is, look -/
theorem and_1 (y : Int32) : y &&& nI 1 = 0 ∨ y &&& nI 1 = nI 1 := by
  have e : (y &&& nI 1).toBitVec = y.toBitVec &&& 1#32 := rfl
  rw [BitVec.and_one_eq_setWidth_ofBool_getLsbD] at e
  cases hb : y.toBitVec.getLsbD 0 with
  | false => left; apply Int32.toBitVec_inj.mp; rw [e, hb]; rfl
  | true => right; apply Int32.toBitVec_inj.mp; rw [e, hb]; rfl
theorem thr_m1 {A : rl → Nat} : thr A (-1) = none := if_pos zneg
theorem thr_n {A : rl → Nat} {o : Nat} (h : o < 2 ^ 31) : thr A (nI o) = some (A (33, o)) := by unfold thr; rw [if_neg (nI_pos h), nI_clamp h]
def cIs (R : zSt) (x s : Int32) : zSt := if inS R x s = true then R else va_up R 74 (fun _ => nI 0)
theorem inS_m1 {R : zSt} {s : Int32} : inS R (-1) s = true := by unfold inS; rw [if_pos zneg]
theorem inS_n {R : zSt} {o : Nat} {s : Int32} (h : o < 2 ^ 31) : inS R (nI o) s = decide (s >>> (R 33 o &&& 31) &&& nI 1 = nI 1) := by unfold inS; rw [if_neg (nI_pos h), nI_clamp h]
abbrev rm_Ru_is : Room := { frames := 0, cells := 0, slots := 0, locals := 0 }
set_option maxHeartbeats 4000000 in
set_option maxRecDepth 100000 in
theorem c_is22 (l : Launch) (E : zE) {A : rl → Nat} {K : Nat → Nat → Nat} (hA : cIj K A) (X S R : zSt) (hf : K 109 0 ≠ 0) (x : Int32) (N : Nat) (hx : oR N x) (hN : N ≤ K 107 0) (hb : N ≤ 30) (j : Nat) (hj : j < 1260) : zM l E y_Ru_is b_Ru_is 3 (none) rm_Ru_is [.ref (A (26, 0)), va_rf (thr A x), .ref (A (22, j))] (cp E A K X S R) (zPv (cp E A K X S (cIs R x (S 20 j)))) := by
  rcases hx with rfl | ⟨o, ho, rfl⟩
  · rw [thr_m1]
    refine zM_w (by decide +kernel) rfl rfl (fun sz => ?_)
    refine z_aload_nN d_Ru_is_0 rfl ?_
    refine z_ifnullN (tgt := 23) d_Ru_is_1 (by decide) ?_
    exact z_vret rfl d_Ru_is_23 (zlq rfl) (zlq rfl) (⟨rfl, by unfold cIs; rw [if_pos inS_m1]⟩)
  · rw [thr_n (by omega)]
    refine zM_w (by decide +kernel) rfl rfl (fun sz => ?_)
    refine z_aload_n d_Ru_is_0 rfl ?_
    refine z_ifnullR d_Ru_is_1 ?_
    refine z_aload_n d_Ru_is_4 rfl ?_
    refine z_get fa_Ru_158 d_Ru_is_5 (cp_22 hA (j := j) (by omega)) rfl ?_
    refine z_aload_n d_Ru_is_8 rfl ?_
    refine z_get fa_Ru_117 d_Ru_is_9 (cp_33 hA (j := o) ⟨by omega, hf⟩) rfl ?_
    refine z_ishr d_Ru_is_12 ?_
    refine z_iconst d_Ru_is_13 ic_1 ?_
    refine z_iand d_Ru_is_14 ?_
    refine z_if_ne (tgt := 23) d_Ru_is_15 (by decide) (fun c15 => ?_) (fun c15 => ?_)
    · exact z_vret rfl d_Ru_is_23 (zlq rfl) (zlq rfl) (⟨rfl, by unfold cIs; rw [if_pos (by rw [inS_n (by omega)]; exact decide_eq_true ((and_1 _).resolve_left c15))]⟩)
    · refine z_aload_n d_Ru_is_18 rfl ?_
      refine z_iconst d_Ru_is_19 ic_0 ?_
      refine z_put fp_Ru_39 d_Ru_is_20 (cp_26 hA hf) (z_nb nz_0) (z_fb nz_0) (zlt rfl) ?_
      refine z_eqh (cp_p26_5 nz_0 hA hf) ?_
      exact z_vret rfl d_Ru_is_23 (zlq rfl) (zlq rfl) (⟨rfl, by unfold cIs; rw [if_neg (by rw [inS_n (by omega)]; intro z; rw [c15] at z; exact absurd z (by decide))]⟩)
set_option maxHeartbeats 4000000 in
set_option maxRecDepth 100000 in
theorem c_is23 (l : Launch) (E : zE) {A : rl → Nat} {K : Nat → Nat → Nat} (hA : cIj K A) (X S R : zSt) (hf : K 109 0 ≠ 0) (x : Int32) (N : Nat) (hx : oR N x) (hN : N ≤ K 107 0) (hb : N ≤ 30) (j : Nat) (hj : j < 160) : zM l E y_Ru_is b_Ru_is 3 (none) rm_Ru_is [.ref (A (26, 0)), va_rf (thr A x), .ref (A (23, j))] (cp E A K X S R) (zPv (cp E A K X S (cIs R x (S 22 j)))) := by
  rcases hx with rfl | ⟨o, ho, rfl⟩
  · rw [thr_m1]
    refine zM_w (by decide +kernel) rfl rfl (fun sz => ?_)
    refine z_aload_nN d_Ru_is_0 rfl ?_
    refine z_ifnullN (tgt := 23) d_Ru_is_1 (by decide) ?_
    exact z_vret rfl d_Ru_is_23 (zlq rfl) (zlq rfl) (⟨rfl, by unfold cIs; rw [if_pos inS_m1]⟩)
  · rw [thr_n (by omega)]
    refine zM_w (by decide +kernel) rfl rfl (fun sz => ?_)
    refine z_aload_n d_Ru_is_0 rfl ?_
    refine z_ifnullR d_Ru_is_1 ?_
    refine z_aload_n d_Ru_is_4 rfl ?_
    refine z_get fa_Ru_158 d_Ru_is_5 (cp_23 hA (j := j) (by omega)) rfl ?_
    refine z_aload_n d_Ru_is_8 rfl ?_
    refine z_get fa_Ru_117 d_Ru_is_9 (cp_33 hA (j := o) ⟨by omega, hf⟩) rfl ?_
    refine z_ishr d_Ru_is_12 ?_
    refine z_iconst d_Ru_is_13 ic_1 ?_
    refine z_iand d_Ru_is_14 ?_
    refine z_if_ne (tgt := 23) d_Ru_is_15 (by decide) (fun c15 => ?_) (fun c15 => ?_)
    · exact z_vret rfl d_Ru_is_23 (zlq rfl) (zlq rfl) (⟨rfl, by unfold cIs; rw [if_pos (by rw [inS_n (by omega)]; exact decide_eq_true ((and_1 _).resolve_left c15))]⟩)
    · refine z_aload_n d_Ru_is_18 rfl ?_
      refine z_iconst d_Ru_is_19 ic_0 ?_
      refine z_put fp_Ru_39 d_Ru_is_20 (cp_26 hA hf) (z_nb nz_0) (z_fb nz_0) (zlt rfl) ?_
      refine z_eqh (cp_p26_5 nz_0 hA hf) ?_
      exact z_vret rfl d_Ru_is_23 (zlq rfl) (zlq rfl) (⟨rfl, by unfold cIs; rw [if_neg (by rw [inS_n (by omega)]; intro z; rw [c15] at z; exact absurd z (by decide))]⟩)
set_option maxHeartbeats 4000000 in
set_option maxRecDepth 100000 in
theorem c_is24 (l : Launch) (E : zE) {A : rl → Nat} {K : Nat → Nat → Nat} (hA : cIj K A) (X S R : zSt) (hf : K 109 0 ≠ 0) (x : Int32) (N : Nat) (hx : oR N x) (hN : N ≤ K 107 0) (hb : N ≤ 30) (j : Nat) (hj : j < 20) : zM l E y_Ru_is b_Ru_is 3 (none) rm_Ru_is [.ref (A (26, 0)), va_rf (thr A x), .ref (A (24, j))] (cp E A K X S R) (zPv (cp E A K X S (cIs R x (S 24 j)))) := by
  rcases hx with rfl | ⟨o, ho, rfl⟩
  · rw [thr_m1]
    refine zM_w (by decide +kernel) rfl rfl (fun sz => ?_)
    refine z_aload_nN d_Ru_is_0 rfl ?_
    refine z_ifnullN (tgt := 23) d_Ru_is_1 (by decide) ?_
    exact z_vret rfl d_Ru_is_23 (zlq rfl) (zlq rfl) (⟨rfl, by unfold cIs; rw [if_pos inS_m1]⟩)
  · rw [thr_n (by omega)]
    refine zM_w (by decide +kernel) rfl rfl (fun sz => ?_)
    refine z_aload_n d_Ru_is_0 rfl ?_
    refine z_ifnullR d_Ru_is_1 ?_
    refine z_aload_n d_Ru_is_4 rfl ?_
    refine z_get fa_Ru_158 d_Ru_is_5 (cp_24 hA (j := j) (by omega)) rfl ?_
    refine z_aload_n d_Ru_is_8 rfl ?_
    refine z_get fa_Ru_117 d_Ru_is_9 (cp_33 hA (j := o) ⟨by omega, hf⟩) rfl ?_
    refine z_ishr d_Ru_is_12 ?_
    refine z_iconst d_Ru_is_13 ic_1 ?_
    refine z_iand d_Ru_is_14 ?_
    refine z_if_ne (tgt := 23) d_Ru_is_15 (by decide) (fun c15 => ?_) (fun c15 => ?_)
    · exact z_vret rfl d_Ru_is_23 (zlq rfl) (zlq rfl) (⟨rfl, by unfold cIs; rw [if_pos (by rw [inS_n (by omega)]; exact decide_eq_true ((and_1 _).resolve_left c15))]⟩)
    · refine z_aload_n d_Ru_is_18 rfl ?_
      refine z_iconst d_Ru_is_19 ic_0 ?_
      refine z_put fp_Ru_39 d_Ru_is_20 (cp_26 hA hf) (z_nb nz_0) (z_fb nz_0) (zlt rfl) ?_
      refine z_eqh (cp_p26_5 nz_0 hA hf) ?_
      exact z_vret rfl d_Ru_is_23 (zlq rfl) (zlq rfl) (⟨rfl, by unfold cIs; rw [if_neg (by rw [inS_n (by omega)]; intro z; rw [c15] at z; exact absurd z (by decide))]⟩)
set_option maxHeartbeats 4000000 in
set_option maxRecDepth 100000 in
theorem c_is25 (l : Launch) (E : zE) {A : rl → Nat} {K : Nat → Nat → Nat} (hA : cIj K A) (X S R : zSt) (hf : K 109 0 ≠ 0) (x : Int32) (N : Nat) (hx : oR N x) (hN : N ≤ K 107 0) (hb : N ≤ 30) (j : Nat) (hj : j < 4) : zM l E y_Ru_is b_Ru_is 3 (none) rm_Ru_is [.ref (A (26, 0)), va_rf (thr A x), .ref (A (25, j))] (cp E A K X S R) (zPv (cp E A K X S (cIs R x (S 26 j)))) := by
  rcases hx with rfl | ⟨o, ho, rfl⟩
  · rw [thr_m1]
    refine zM_w (by decide +kernel) rfl rfl (fun sz => ?_)
    refine z_aload_nN d_Ru_is_0 rfl ?_
    refine z_ifnullN (tgt := 23) d_Ru_is_1 (by decide) ?_
    exact z_vret rfl d_Ru_is_23 (zlq rfl) (zlq rfl) (⟨rfl, by unfold cIs; rw [if_pos inS_m1]⟩)
  · rw [thr_n (by omega)]
    refine zM_w (by decide +kernel) rfl rfl (fun sz => ?_)
    refine z_aload_n d_Ru_is_0 rfl ?_
    refine z_ifnullR d_Ru_is_1 ?_
    refine z_aload_n d_Ru_is_4 rfl ?_
    refine z_get fa_Ru_158 d_Ru_is_5 (cp_25 hA (j := j) (by omega)) rfl ?_
    refine z_aload_n d_Ru_is_8 rfl ?_
    refine z_get fa_Ru_117 d_Ru_is_9 (cp_33 hA (j := o) ⟨by omega, hf⟩) rfl ?_
    refine z_ishr d_Ru_is_12 ?_
    refine z_iconst d_Ru_is_13 ic_1 ?_
    refine z_iand d_Ru_is_14 ?_
    refine z_if_ne (tgt := 23) d_Ru_is_15 (by decide) (fun c15 => ?_) (fun c15 => ?_)
    · exact z_vret rfl d_Ru_is_23 (zlq rfl) (zlq rfl) (⟨rfl, by unfold cIs; rw [if_pos (by rw [inS_n (by omega)]; exact decide_eq_true ((and_1 _).resolve_left c15))]⟩)
    · refine z_aload_n d_Ru_is_18 rfl ?_
      refine z_iconst d_Ru_is_19 ic_0 ?_
      refine z_put fp_Ru_39 d_Ru_is_20 (cp_26 hA hf) (z_nb nz_0) (z_fb nz_0) (zlt rfl) ?_
      refine z_eqh (cp_p26_5 nz_0 hA hf) ?_
      exact z_vret rfl d_Ru_is_23 (zlq rfl) (zlq rfl) (⟨rfl, by unfold cIs; rw [if_neg (by rw [inS_n (by omega)]; intro z; rw [c15] at z; exact absurd z (by decide))]⟩)
theorem c_peek (l : Launch) (E : zE) {A : rl → Nat} {K : Nat → Nat → Nat} (hA : cIj K A) (X S R : zSt) (hf : K 109 0 ≠ 0) (n : Nat) (hn : K 103 0 = n + 1) (hb : n < 10) : zM l E y_AD_peek b_AD_peek 1 (some (.object "java/lang/Object")) rm_AD_peek [.ref (A (29, 0))] (cp E A K X S R) (zPr (some (A (35, n))) (cp E A K X S R)) :=
  c_AD_peek l E _ _ _ _ _ (cp_29 hA hf) (cp_30 hA hf) _ (by unfold chd; split <;> omega) (by rw [if_pos (by unfold chd; split <;> omega), show 16 - chd (K 103 0) = n by unfold chd; split <;> omega])
theorem c_getT (l : Launch) (E : zE) {A : rl → Nat} {K : Nat → Nat → Nat} (hA : cIj K A) (X S R : zSt) (hf : K 109 0 ≠ 0) (h1 : K 102 0 ≤ K 20 0) (h2 : K 20 0 ≤ 90) (i : Nat) (hi : i < K 102 0) : zM l E y_AL_get b_AL_get 2 (some (.object "java/lang/Object")) rm_AL_get [.ref (A (27, 0)), .int (nI i)] (cp E A K X S R) (zPr (some (A (33, i))) (cp E A K X S R)) := by
  have e4 := cp_27 (E := E) (X := X) (S := S) (R := R) hA hf
  have hn : K 20 0 ≠ 0 := by omega
  rw [show car E A K 28 20 0 0 = .ref (A (28, 0)) from if_neg hn] at e4
  have h := c_AL_get l E _ (A (27, 0)) (A (28, 0)) (K 102 0) (K 20 0) _ _ e4 (cp_28 hA ⟨hf, hn⟩) h1 (by omega) i hi
  rw [if_pos hi] at h
  exact h
/-- the run's state while it is looked at -/
def lkR (R : zSt) (z : (Nat → Int32) × Bool) : zSt := va_up (va_up R 42 z.1) 74 (fun _ => bI z.2)
theorem cIs_lk {R : zSt} {z : (Nat → Int32) × Bool} {x s : Int32} : cIs (lkR R z) x s = lkR R (z.1, z.2 && inS R x s) := by
  have e : inS (lkR R z) x s = inS R x s := rfl
  unfold cIs
  rw [e]
  cases h : inS R x s
  · rw [if_neg (by decide), Bool.and_false]
    unfold lkR
    rw [bx_uu]
    rfl
  · rw [if_pos rfl, Bool.and_true]
