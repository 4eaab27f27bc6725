/-! the component: stores into a run -/
theorem cp_p36 {E : zE} {A : rl → Nat} {K : Nat → Nat → Nat} {X S R : zSt} (hA : cIj K A) (hf : K 109 0 ≠ 0) {j : Nat} (hj : j < K 108 0) {n : Nat} (hn : n < 6) {x : Int32} : zpu (cp E A K X S R) (A (36, j)) (zeT E 6 (va_up (fun i => if i < 6 then thr A (R 41 (6 * j + i)) else none) n (thr A x))) = cp E A K X S (cu R 41 (6 * j + n) x) := by
  refine cp_upd [41] hA (k := 36) (j := j) ⟨hj, hf⟩ tsm_rf tsm_rf (tsm_up (by decide)) (by decide) ?_ (fun i' hi hd => ?_)
  · show zeT E 6 (fun i => if i < 6 then thr A (cu R 41 (6 * j + n) x 41 (6 * j + i)) else none) = _
    have e : (fun i => if i < 6 then thr A (cu R 41 (6 * j + n) x 41 (6 * j + i)) else none) = va_up (fun i => if i < 6 then thr A (R 41 (6 * j + i)) else none) n (thr A x) := by
      funext i
      unfold va_up
      by_cases c : i = n
      · subst c; rw [if_pos rfl, if_pos hn, cu_s]
      · rw [if_neg c]
        by_cases d : i < 6
        · rw [if_pos d, cu_i (by omega)]; exact (if_pos d).symm
        · rw [if_neg d]; exact (if_neg d).symm
    rw [e]
  · exact cct_k36 (fun i hi' => by rw [cu_i (by omega)])
theorem z_ast36 {C : zC} {k n pc : Nat} {L : zL} {st : List Value} {A : rl → Nat} {K : Nat → Nat → Nat} {X S R : zSt} (hd : decode C.cc pc = .ok (.aastore, 1)) (hA : cIj K A) (hf : K 109 0 ≠ 0) {j : Nat} (hj : j < K 108 0) {i : Nat} (hi : i < 6) {x : Int32} {N : Nat} (hx : oR N x) (hN : N ≤ K 107 0) (hN3 : N ≤ 30) (kk : zG C k n (pc + 1) L st (cp C.E A K X S (cu R 41 (6 * j + i) x))) : zG C k n pc L (va_rf (thr A x) :: .int (nI i) :: .ref (A (36, j)) :: st) (cp C.E A K X S R) := by
  have e := cp_p36 (E := C.E) (X := X) (S := S) (R := R) hA hf hj hi (x := x)
  rw [← e] at kk
  rcases hx with rfl | ⟨o, ho, rfl⟩
  · rw [thr_m1] at kk ⊢
    exact z_aastTN i hd (cp_36 hA (j := j) ⟨hj, hf⟩) rfl hi (by decide) kk
  · rw [thr_n (by omega)] at kk ⊢
    exact z_aastT i hd (cp_36 hA (j := j) ⟨hj, hf⟩) (cp_33 hA (j := o) ⟨by omega, hf⟩) (r := (R_Th, F_Th, 3)) rfl k_1146 rfl hi (by decide) kk
theorem cp_p34 {E : zE} {A : rl → Nat} {K : Nat → Nat → Nat} {X S R : zSt} (hA : cIj K A) (hf : K 109 0 ≠ 0) {j : Nat} (hj : j < K 107 0) {n : Nat} (hn : n < 8) {x : Int32} : zpu (cp E A K X S R) (A (34, j)) (zeT E 8 (va_up (fun i => if i < 8 then thr A (R 34 (8 * j + i)) else none) n (thr A x))) = cp E A K X S (cu R 34 (8 * j + n) x) := by
  refine cp_upd [34] hA (k := 34) (j := j) ⟨hj, hf⟩ tsm_rf tsm_rf (tsm_up (by decide)) (by decide) ?_ (fun i' hi hd => ?_)
  · show zeT E 8 (fun i => if i < 8 then thr A (cu R 34 (8 * j + n) x 34 (8 * j + i)) else none) = _
    have e : (fun i => if i < 8 then thr A (cu R 34 (8 * j + n) x 34 (8 * j + i)) else none) = va_up (fun i => if i < 8 then thr A (R 34 (8 * j + i)) else none) n (thr A x) := by
      funext i
      unfold va_up
      by_cases c : i = n
      · subst c; rw [if_pos rfl, if_pos hn, cu_s]
      · rw [if_neg c]
        by_cases d : i < 8
        · rw [if_pos d, cu_i (by omega)]; exact (if_pos d).symm
        · rw [if_neg d]; exact (if_neg d).symm
    rw [e]
  · exact cct_k34 (fun i hi' => by rw [cu_i (by omega)])
theorem z_ast34 {C : zC} {k n pc : Nat} {L : zL} {st : List Value} {A : rl → Nat} {K : Nat → Nat → Nat} {X S R : zSt} (hd : decode C.cc pc = .ok (.aastore, 1)) (hA : cIj K A) (hf : K 109 0 ≠ 0) {j : Nat} (hj : j < K 107 0) {i : Nat} (hi : i < 8) {x : Int32} {N : Nat} (hx : oR N x) (hN : N ≤ K 107 0) (hN3 : N ≤ 30) (kk : zG C k n (pc + 1) L st (cp C.E A K X S (cu R 34 (8 * j + i) x))) : zG C k n pc L (va_rf (thr A x) :: .int (nI i) :: .ref (A (34, j)) :: st) (cp C.E A K X S R) := by
  have e := cp_p34 (E := C.E) (X := X) (S := S) (R := R) hA hf hj hi (x := x)
  rw [← e] at kk
  rcases hx with rfl | ⟨o, ho, rfl⟩
  · rw [thr_m1] at kk ⊢
    exact z_aastTN i hd (cp_34 hA (j := j) ⟨hj, hf⟩) rfl hi (by decide) kk
  · rw [thr_n (by omega)] at kk ⊢
    exact z_aastT i hd (cp_34 hA (j := j) ⟨hj, hf⟩) (cp_33 hA (j := o) ⟨by omega, hf⟩) (r := (R_Th, F_Th, 3)) rfl k_1146 rfl hi (by decide) kk
theorem cp_p31 {E : zE} {A : rl → Nat} {K : Nat → Nat → Nat} {X S R : zSt} (hA : cIj K A) (hf : K 109 0 ≠ 0) {n : Nat} (hn : n < 4) {x : Int32} : zpu (cp E A K X S R) (A (31, 0)) (zeT E 4 (va_up (fun i => if i < 4 then thr A (R 36 (i)) else none) n (thr A x))) = cp E A K X S (cu R 36 (n) x) := by
  refine cp_upd [36] hA (k := 31) (j := 0) ⟨rfl, hf⟩ tsm_rf tsm_rf (tsm_up (by decide)) (by decide) ?_ (fun i' hi hd => ?_)
  · show zeT E 4 (fun i => if i < 4 then thr A (cu R 36 (n) x 36 (i)) else none) = _
    have e : (fun i => if i < 4 then thr A (cu R 36 (n) x 36 (i)) else none) = va_up (fun i => if i < 4 then thr A (R 36 (i)) else none) n (thr A x) := by
      funext i
      unfold va_up
      by_cases c : i = n
      · subst c; rw [if_pos rfl, if_pos hn, cu_s]
      · rw [if_neg c]
        by_cases d : i < 4
        · rw [if_pos d, cu_i (by omega)]; exact (if_pos d).symm
        · rw [if_neg d]; exact (if_neg d).symm
    rw [e]
  · exact absurd hd.1 hi
theorem z_ast31 {C : zC} {k n pc : Nat} {L : zL} {st : List Value} {A : rl → Nat} {K : Nat → Nat → Nat} {X S R : zSt} (hd : decode C.cc pc = .ok (.aastore, 1)) (hA : cIj K A) (hf : K 109 0 ≠ 0) {i : Nat} (hi : i < 4) {x : Int32} {N : Nat} (hx : oR N x) (hN : N ≤ K 107 0) (hN3 : N ≤ 30) (kk : zG C k n (pc + 1) L st (cp C.E A K X S (cu R 36 (i) x))) : zG C k n pc L (va_rf (thr A x) :: .int (nI i) :: .ref (A (31, 0)) :: st) (cp C.E A K X S R) := by
  have e := cp_p31 (E := C.E) (X := X) (S := S) (R := R) hA hf hi (x := x)
  rw [← e] at kk
  rcases hx with rfl | ⟨o, ho, rfl⟩
  · rw [thr_m1] at kk ⊢
    exact z_aastTN i hd (cp_31 hA hf) rfl hi (by decide) kk
  · rw [thr_n (by omega)] at kk ⊢
    exact z_aastT i hd (cp_31 hA hf) (cp_33 hA (j := o) ⟨by omega, hf⟩) (r := (R_Th, F_Th, 3)) rfl k_1146 rfl hi (by decide) kk
theorem cp_p33 {E : zE} {A : rl → Nat} {K : Nat → Nat → Nat} {X S R : zSt} (hA : cIj K A) (hf : K 109 0 ≠ 0) {j : Nat} (hj : j < K 107 0) {x : Int32} : zpu (cp E A K X S R) (A (33, j)) (zob 5 [.int (R 33 j), .ref (A (34, j)), va_rf (thr A x)]) = cp E A K X S (cu R 35 j x) := by
  refine cp_upd [35] hA (k := 33) (j := j) ⟨hj, hf⟩ tsm_rf tsm_rf (tsm_up (by decide)) (by decide) ?_ (fun i' hi hd => ?_)
  · show zob 5 [.int (cu R 35 j x 33 j), .ref (A (34, j)), va_rf (thr A (cu R 35 j x 35 j))] = _
    rw [cu_s, cu_o (by decide)]
  · exact cct_k33 (congrFun (cu_o (by decide)) _) rfl (by rw [cu_i hi])
