/-! the component's picture by roles -/
def bz (x : Int32) : Bool := decide (x ≠ 0)
theorem bI_bz {b : Int32} (h : b = 0 ∨ b = 1) : bI (bz b) = b := by rcases h with rfl | rfl <;> decide +kernel
abbrev rl : Type := Nat × Nat
def thr (A : rl → Nat) (x : Int32) : Option Nat := if x < 0 then none else some (A (33, x.toNatClampNeg))
def car (E : zE) (A : rl → Nat) (K : Nat → Nat → Nat) (k l i m : Nat) : Value := if K l i = 0 then .ref (zt0 E) else .ref (A (k, m))
def cal (j : Nat) : Nat := match j with | 0 => 8 | 1 => 8 | 2 => 10 | 3 => 10 | _ => 20
def cai (j : Nat) : Nat := match j with | 0 => 1 | 1 => 3 | 2 => 5 | 3 => 6 | _ => 17
def csz (j : Nat) : Nat := match j with | 0 => 210 | 1 => 160 | 2 => 20 | _ => 4
def ccp (j : Nat) : Nat := match j with | 0 => 244 | 1 => 163 | 2 => 22 | _ => 10
def crl (j : Nat) : Nat := match j with | 0 => 19 | 1 => 23 | 2 => 24 | _ => 25
def chd (n : Nat) : Nat := if n = 0 then 0 else 17 - n
def cCell (Y : zSt) (a j : Nat) : va_E := zob 3 [.int (Y a j), .int (Y (a + 30) j), .int (Y (a + 40) j)]
def cdm (K : Nat → Nat → Nat) (r : rl) : Prop := match r with
  | (0, j) => j = 0
  | (1, j) => j < 5
  | (2, j) => j = 0
  | (3, j) => (j = 0 ∧ K 0 0 ≠ 0)
  | (4, j) => j = 0
  | (5, j) => (j = 0 ∧ K 1 0 ≠ 0)
  | (6, j) => j < K 105 0
  | (7, j) => (j < K 105 0 ∧ K 2 j ≠ 0)
  | (8, j) => j < K 106 0
  | (9, j) => j = 0
  | (10, j) => j = 0
  | (11, j) => j < 4
  | (12, j) => j < 4
  | (19, j) => j < 210
  | (20, j) => j < 210
  | (21, j) => j < 210
  | (22, j) => j < 1260
  | (23, j) => j < 160
  | (24, j) => j < 20
  | (25, j) => j < 4
  | (26, j) => (j = 0 ∧ K 109 0 ≠ 0)
  | (27, j) => (j = 0 ∧ K 109 0 ≠ 0)
  | (28, j) => (j = 0 ∧ K 109 0 ≠ 0 ∧ K 20 0 ≠ 0)
  | (29, j) => (j = 0 ∧ K 109 0 ≠ 0)
  | (30, j) => (j = 0 ∧ K 109 0 ≠ 0)
  | (31, j) => (j = 0 ∧ K 109 0 ≠ 0)
  | (32, j) => (j = 0 ∧ K 109 0 ≠ 0)
  | (33, j) => (j < K 107 0 ∧ K 109 0 ≠ 0)
  | (34, j) => (j < K 107 0 ∧ K 109 0 ≠ 0)
  | (35, j) => (j < K 108 0 ∧ K 109 0 ≠ 0)
  | (36, j) => (j < K 108 0 ∧ K 109 0 ≠ 0)
  | _ => False
def cct (E : zE) (A : rl → Nat) (K : Nat → Nat → Nat) (X S R : zSt) (r : rl) : va_E := match r with
  | (0, j) => zob 0 [.ref (A (1, 0)), .int (X 0 0), .ref (A (1, 1)), .int (X 2 0), .ref (A (1, 2)), .ref (A (1, 3)), .int (X 4 0), .ref (A (2, 0)), .ref (A (4, 0)), .ref (A (1, 4)), .int (X 16 0), .int (X 18 0), .ref (A (9, 0)), .int (X 19 0), (if K 104 0 = 0 then .null else .ref (A (26, 0)))]
  | (1, j) => zeI E (cal j) (X (cai j))
  | (2, j) => zob 9 [.int (nI (K 75 0)), car E A K 3 0 0 0, .int (nI (K 101 0))]
  | (3, j) => zeO E (K 0 0) (fun i => if i < K 101 0 then some (A (8, i)) else none)
  | (4, j) => zob 9 [.int (nI (K 76 0)), car E A K 5 1 0 0, .int (nI (K 100 0))]
  | (5, j) => zeO E (K 1 0) (fun i => if i < K 100 0 then some (A (6, i)) else none)
  | (6, j) => zob 9 [.int (nI (K 77 j)), car E A K 7 2 j j, .int (nI (K 110 j))]
  | (7, j) => zeO E (K 2 j) (fun i => if i < K 110 j then some (A (8, K 1000 (100 * j + i))) else none)
  | (8, j) => zob 4 [.int (X 8 j), .int (X 9 j), .int (X 10 j), .int (X 11 j), .int (X 12 j), .int (X 13 j), .int (X 14 j), .int (X 15 j)]
  | (9, j) => zob 1 [.ref (A (11, 0)), .ref (A (11, 1)), .ref (A (11, 2)), .ref (A (11, 3)), .ref (A (10, 0)), .int (S 31 0), .ref (A (0, 0))]
  | (10, j) => zeI E 1200 (S 30)
  | (11, j) => zob 9 [.int (S 77 (30 + j)), .ref (A (12, j)), .int (nI (csz j))]
  | (12, j) => zeO E (ccp j) (fun i => if i < csz j then some (A (crl j, i)) else none)
  | (19, j) => zob 2 [.int (bI (bz (S 70 j))), .int (bI (bz (S 71 j))), .int (bI (bz (S 72 j))), .ref (A (20, j))]
  | (20, j) => zob 9 [.int (S 77 (40 + j)), .ref (A (21, j)), .int (nI (6))]
  | (21, j) => zeO E 10 (fun i => if i < 6 then some (A (22, 6 * j + i)) else none)
  | (22, j) => cCell S 20 j
  | (23, j) => cCell S 22 j
  | (24, j) => cCell S 24 j
  | (25, j) => cCell S 26 j
  | (26, j) => zob 7 [.ref (A (27, 0)), .ref (A (29, 0)), .ref (A (31, 0)), .ref (A (32, 0)), .int (R 43 0), .int (bI (bz (R 74 0))), .ref (A (0, 0))]
  | (27, j) => zob 9 [.int (nI (K 78 0)), car E A K 28 20 0 0, .int (nI (K 102 0))]
  | (28, j) => zeO E (K 20 0) (fun i => if i < K 102 0 then some (A (33, i)) else none)
  | (29, j) => zob 10 [.ref (A (30, 0)), .int (nI (chd (K 103 0))), .int (nI 0)]
  | (30, j) => zeO E 17 (fun x => if 17 - K 103 0 ≤ x ∧ x < 17 then some (A (35, 16 - x)) else none)
  | (31, j) => zeT E 4 (fun i => if i < 4 then thr A (R 36 i) else none)
  | (32, j) => zeI E 60 (R 42)
  | (33, j) => zob 5 [.int (R 33 j), .ref (A (34, j)), va_rf (thr A (R 35 j))]
  | (34, j) => zeT E 8 (fun i => if i < 8 then thr A (R 34 (8 * j + i)) else none)
  | (35, j) => zob 6 [.int (R 38 j), .int (R 39 j), (if j = 0 then .null else .ref (A (8, K 2000 j))), .ref (A (36, j))]
  | (36, j) => zeT E 6 (fun i => if i < 6 then thr A (R 41 (6 * j + i)) else none)
  | _ => zob 0 []
def cdep (k : Nat) : List Nat := match k with
  | 0 => [0, 2, 4, 16, 18, 19]
  | 1 => [1, 3, 5, 6, 17]
  | 8 => [8, 9, 10, 11, 12, 13, 14, 15]
  | 9 => [31]
  | 10 => [30]
  | 11 => [77]
  | 19 => [70, 71, 72]
  | 20 => [77]
  | 22 => [20, 50, 60]
  | 23 => [22, 52, 62]
  | 24 => [24, 54, 64]
  | 25 => [26, 56, 66]
  | 26 => [43, 74]
  | 31 => [36]
  | 32 => [42]
  | 33 => [33, 35]
  | 34 => [34]
  | 35 => [38, 39]
  | 36 => [41]
  | _ => []
noncomputable def cp (E : zE) (A : rl → Nat) (K : Nat → Nat → Nat) (X S R : zSt) : zPH := zpm (cdm K) A (cct E A K X S R)
abbrev cIj (K : Nat → Nat → Nat) (A : rl → Nat) : Prop := zinj (cdm K) A
section CP
variable {E : zE} {A : rl → Nat} {K : Nat → Nat → Nat} {X X' S S' R R' : zSt}
theorem cp_0 (hA : cIj K A) : cp E A K X S R (A (0, 0)) = some (zob 0 [.ref (A (1, 0)), .int (X 0 0), .ref (A (1, 1)), .int (X 2 0), .ref (A (1, 2)), .ref (A (1, 3)), .int (X 4 0), .ref (A (2, 0)), .ref (A (4, 0)), .ref (A (1, 4)), .int (X 16 0), .int (X 18 0), .ref (A (9, 0)), .int (X 19 0), (if K 104 0 = 0 then .null else .ref (A (26, 0)))]) := zpm_at hA (i := (0, 0)) rfl
theorem cp_1 (hA : cIj K A) {j : Nat} (hj : j < 5) : cp E A K X S R (A (1, j)) = some (zeI E (cal j) (X (cai j))) := zpm_at hA (i := (1, j)) hj
theorem cp_2 (hA : cIj K A) : cp E A K X S R (A (2, 0)) = some (zob 9 [.int (nI (K 75 0)), car E A K 3 0 0 0, .int (nI (K 101 0))]) := zpm_at hA (i := (2, 0)) rfl
theorem cp_3 (hA : cIj K A) (hf : K 0 0 ≠ 0) : cp E A K X S R (A (3, 0)) = some (zeO E (K 0 0) (fun i => if i < K 101 0 then some (A (8, i)) else none)) := zpm_at hA (i := (3, 0)) ⟨rfl, hf⟩
theorem cp_4 (hA : cIj K A) : cp E A K X S R (A (4, 0)) = some (zob 9 [.int (nI (K 76 0)), car E A K 5 1 0 0, .int (nI (K 100 0))]) := zpm_at hA (i := (4, 0)) rfl
theorem cp_5 (hA : cIj K A) (hf : K 1 0 ≠ 0) : cp E A K X S R (A (5, 0)) = some (zeO E (K 1 0) (fun i => if i < K 100 0 then some (A (6, i)) else none)) := zpm_at hA (i := (5, 0)) ⟨rfl, hf⟩
theorem cp_6 (hA : cIj K A) {j : Nat} (hj : j < K 105 0) : cp E A K X S R (A (6, j)) = some (zob 9 [.int (nI (K 77 j)), car E A K 7 2 j j, .int (nI (K 110 j))]) := zpm_at hA (i := (6, j)) hj
theorem cp_7 (hA : cIj K A) {j : Nat} (hj : (j < K 105 0 ∧ K 2 j ≠ 0)) : cp E A K X S R (A (7, j)) = some (zeO E (K 2 j) (fun i => if i < K 110 j then some (A (8, K 1000 (100 * j + i))) else none)) := zpm_at hA (i := (7, j)) hj
theorem cp_8 (hA : cIj K A) {j : Nat} (hj : j < K 106 0) : cp E A K X S R (A (8, j)) = some (zob 4 [.int (X 8 j), .int (X 9 j), .int (X 10 j), .int (X 11 j), .int (X 12 j), .int (X 13 j), .int (X 14 j), .int (X 15 j)]) := zpm_at hA (i := (8, j)) hj
theorem cp_9 (hA : cIj K A) : cp E A K X S R (A (9, 0)) = some (zob 1 [.ref (A (11, 0)), .ref (A (11, 1)), .ref (A (11, 2)), .ref (A (11, 3)), .ref (A (10, 0)), .int (S 31 0), .ref (A (0, 0))]) := zpm_at hA (i := (9, 0)) rfl
theorem cp_10 (hA : cIj K A) : cp E A K X S R (A (10, 0)) = some (zeI E 1200 (S 30)) := zpm_at hA (i := (10, 0)) rfl
theorem cp_11 (hA : cIj K A) {j : Nat} (hj : j < 4) : cp E A K X S R (A (11, j)) = some (zob 9 [.int (S 77 (30 + j)), .ref (A (12, j)), .int (nI (csz j))]) := zpm_at hA (i := (11, j)) hj
theorem cp_12 (hA : cIj K A) {j : Nat} (hj : j < 4) : cp E A K X S R (A (12, j)) = some (zeO E (ccp j) (fun i => if i < csz j then some (A (crl j, i)) else none)) := zpm_at hA (i := (12, j)) hj
theorem cp_19 (hA : cIj K A) {j : Nat} (hj : j < 210) : cp E A K X S R (A (19, j)) = some (zob 2 [.int (bI (bz (S 70 j))), .int (bI (bz (S 71 j))), .int (bI (bz (S 72 j))), .ref (A (20, j))]) := zpm_at hA (i := (19, j)) hj
theorem cp_20 (hA : cIj K A) {j : Nat} (hj : j < 210) : cp E A K X S R (A (20, j)) = some (zob 9 [.int (S 77 (40 + j)), .ref (A (21, j)), .int (nI (6))]) := zpm_at hA (i := (20, j)) hj
theorem cp_21 (hA : cIj K A) {j : Nat} (hj : j < 210) : cp E A K X S R (A (21, j)) = some (zeO E 10 (fun i => if i < 6 then some (A (22, 6 * j + i)) else none)) := zpm_at hA (i := (21, j)) hj
theorem cp_22 (hA : cIj K A) {j : Nat} (hj : j < 1260) : cp E A K X S R (A (22, j)) = some (zob 3 [.int (S 20 j), .int (S 50 j), .int (S 60 j)]) := zpm_at hA (i := (22, j)) hj
theorem cp_23 (hA : cIj K A) {j : Nat} (hj : j < 160) : cp E A K X S R (A (23, j)) = some (zob 3 [.int (S 22 j), .int (S 52 j), .int (S 62 j)]) := zpm_at hA (i := (23, j)) hj
theorem cp_24 (hA : cIj K A) {j : Nat} (hj : j < 20) : cp E A K X S R (A (24, j)) = some (zob 3 [.int (S 24 j), .int (S 54 j), .int (S 64 j)]) := zpm_at hA (i := (24, j)) hj
theorem cp_25 (hA : cIj K A) {j : Nat} (hj : j < 4) : cp E A K X S R (A (25, j)) = some (zob 3 [.int (S 26 j), .int (S 56 j), .int (S 66 j)]) := zpm_at hA (i := (25, j)) hj
theorem cp_26 (hA : cIj K A) (hf : K 109 0 ≠ 0) : cp E A K X S R (A (26, 0)) = some (zob 7 [.ref (A (27, 0)), .ref (A (29, 0)), .ref (A (31, 0)), .ref (A (32, 0)), .int (R 43 0), .int (bI (bz (R 74 0))), .ref (A (0, 0))]) := zpm_at hA (i := (26, 0)) ⟨rfl, hf⟩
theorem cp_27 (hA : cIj K A) (hf : K 109 0 ≠ 0) : cp E A K X S R (A (27, 0)) = some (zob 9 [.int (nI (K 78 0)), car E A K 28 20 0 0, .int (nI (K 102 0))]) := zpm_at hA (i := (27, 0)) ⟨rfl, hf⟩
theorem cp_28 (hA : cIj K A) (hf : K 109 0 ≠ 0 ∧ K 20 0 ≠ 0) : cp E A K X S R (A (28, 0)) = some (zeO E (K 20 0) (fun i => if i < K 102 0 then some (A (33, i)) else none)) := zpm_at hA (i := (28, 0)) ⟨rfl, hf⟩
theorem cp_29 (hA : cIj K A) (hf : K 109 0 ≠ 0) : cp E A K X S R (A (29, 0)) = some (zob 10 [.ref (A (30, 0)), .int (nI (chd (K 103 0))), .int (nI 0)]) := zpm_at hA (i := (29, 0)) ⟨rfl, hf⟩
theorem cp_30 (hA : cIj K A) (hf : K 109 0 ≠ 0) : cp E A K X S R (A (30, 0)) = some (zeO E 17 (fun x => if 17 - K 103 0 ≤ x ∧ x < 17 then some (A (35, 16 - x)) else none)) := zpm_at hA (i := (30, 0)) ⟨rfl, hf⟩
theorem cp_31 (hA : cIj K A) (hf : K 109 0 ≠ 0) : cp E A K X S R (A (31, 0)) = some (zeT E 4 (fun i => if i < 4 then thr A (R 36 i) else none)) := zpm_at hA (i := (31, 0)) ⟨rfl, hf⟩
theorem cp_32 (hA : cIj K A) (hf : K 109 0 ≠ 0) : cp E A K X S R (A (32, 0)) = some (zeI E 60 (R 42)) := zpm_at hA (i := (32, 0)) ⟨rfl, hf⟩
theorem cp_33 (hA : cIj K A) {j : Nat} (hj : (j < K 107 0 ∧ K 109 0 ≠ 0)) : cp E A K X S R (A (33, j)) = some (zob 5 [.int (R 33 j), .ref (A (34, j)), va_rf (thr A (R 35 j))]) := zpm_at hA (i := (33, j)) hj
theorem cp_34 (hA : cIj K A) {j : Nat} (hj : (j < K 107 0 ∧ K 109 0 ≠ 0)) : cp E A K X S R (A (34, j)) = some (zeT E 8 (fun i => if i < 8 then thr A (R 34 (8 * j + i)) else none)) := zpm_at hA (i := (34, j)) hj
theorem cp_35 (hA : cIj K A) {j : Nat} (hj : (j < K 108 0 ∧ K 109 0 ≠ 0)) : cp E A K X S R (A (35, j)) = some (zob 6 [.int (R 38 j), .int (R 39 j), (if j = 0 then .null else .ref (A (8, K 2000 j))), .ref (A (36, j))]) := zpm_at hA (i := (35, j)) hj
theorem cp_36 (hA : cIj K A) {j : Nat} (hj : (j < K 108 0 ∧ K 109 0 ≠ 0)) : cp E A K X S R (A (36, j)) = some (zeT E 6 (fun i => if i < 6 then thr A (R 41 (6 * j + i)) else none)) := zpm_at hA (i := (36, j)) hj
theorem cct_rows {k i : Nat} (h : ∀ b, b ∈ cdep k → X' b = X b) (g : ∀ b, b ∈ cdep k → S' b = S b) (f : ∀ b, b ∈ cdep k → R' b = R b) : cct E A K X' S' R' (k, i) = cct E A K X S R (k, i) := by
  have e : ∀ k', k' = k → cct E A K X' S' R' (k', i) = cct E A K X S R (k', i) := by
    intro k' hk
    subst hk
    unfold cct
    split
    all_goals first
      | rfl
      | (rename_i q; injection q with q1 q2; subst q1; subst q2; simp only [cdep, List.mem_cons, List.not_mem_nil, or_false, forall_eq_or_imp, forall_eq] at h g f; simp only [cCell, h, g, f]; done)
      | (rename_i q; injection q with q1 q2; subst q1; subst q2; rw [h _ (by unfold cai; split <;> decide)]; done)
  exact e k rfl
theorem cdm_lt {k j : Nat} (h : cdm K (k, j)) : k < 37 := by
  unfold cdm at h
  split at h <;> first | exact h.elim | (rename_i q; injection q with q1 q2; subst q1; decide)
/-- one role's content is changed, and only rows L of the state, that no other kind reads -/
theorem cp_upd {k j : Nat} {e : va_E} (L : List Nat) (hA : cIj K A) (hdm : cdm K (k, j)) (hx : tsm L X X') (hs : tsm L S S') (hr : tsm L R R') (hd : ∀ k', k' < 37 → k' ≠ k → ∀ b, b ∈ L → b ∉ cdep k') (he : cct E A K X' S' R' (k, j) = e) (ho : ∀ i, i ≠ j → cdm K (k, i) → cct E A K X' S' R' (k, i) = cct E A K X S R (k, i)) : zpu (cp E A K X S R) (A (k, j)) e = cp E A K X' S' R' := by
  refine zpm_up hA (i := (k, j)) hdm he (fun r hr1 hne => ?_)
  obtain ⟨k', i⟩ := r
  by_cases hk : k' = k
  · subst hk
    exact ho i (fun z => hne (by rw [z])) hr1
  · exact cct_rows (fun b hb => hx b (fun z => hd k' (cdm_lt hr1) hk b z hb)) (fun b hb => hs b (fun z => hd k' (cdm_lt hr1) hk b z hb)) (fun b hb => hr b (fun z => hd k' (cdm_lt hr1) hk b z hb))
theorem cp_eq (h : ∀ b, b < 80 → X' b = X b) (g : ∀ b, b < 80 → S' b = S b) (f : ∀ b, b < 80 → R' b = R b) : cp E A K X' S' R' = cp E A K X S R := by
  unfold cp
  congr 1
  funext r
  obtain ⟨k, j⟩ := r
  have hb80 : ∀ b, b ∈ cdep k → b < 80 := by
    intro b hb
    by_cases hk : k < 37
    · exact (by decide : ∀ k, k < 37 → ∀ b, b ∈ cdep k → b < 80) k hk b hb
    · exfalso
      unfold cdep at hb
      split at hb <;> first | (exact absurd hb (List.not_mem_nil)) | omega
  exact cct_rows (fun b hb => h b (hb80 b hb)) (fun b hb => g b (hb80 b hb)) (fun b hb => f b (hb80 b hb))
end CP
def cSet (Y : zSt) (a j : Nat) (x y z : Int32) : zSt := va_up (va_up (va_up Y a (upd (Y a) j x)) (a + 30) (upd (Y (a + 30)) j y)) (a + 40) (upd (Y (a + 40)) j z)
theorem upd_s {f : Nat → Int32} {j : Nat} {v : Int32} : upd f j v j = v := if_pos rfl
theorem upd_n {f : Nat → Int32} {i j : Nat} {v : Int32} (h : i ≠ j) : upd f j v i = f i := if_neg h
theorem cSet_a {Y : zSt} {a j : Nat} {x y z : Int32} : cSet Y a j x y z a = upd (Y a) j x := by unfold cSet; rw [va_up_ne _ _ (by omega), va_up_ne _ _ (by omega), va_up_self]
theorem cSet_b {Y : zSt} {a j : Nat} {x y z : Int32} : cSet Y a j x y z (a + 30) = upd (Y (a + 30)) j y := by unfold cSet; rw [va_up_ne _ _ (by omega), va_up_self]
theorem cSet_c {Y : zSt} {a j : Nat} {x y z : Int32} : cSet Y a j x y z (a + 40) = upd (Y (a + 40)) j z := by unfold cSet; rw [va_up_self]
theorem cSet_o {Y : zSt} {a j : Nat} {x y z : Int32} : tsm [a, a + 30, a + 40] Y (cSet Y a j x y z) := by
  intro b hb
  simp only [List.mem_cons, List.not_mem_nil, or_false, not_or] at hb
  unfold cSet
  rw [va_up_ne _ _ hb.2.2, va_up_ne _ _ hb.2.1, va_up_ne _ _ hb.1]
theorem cCell_s {Y : zSt} {a j : Nat} {x y z : Int32} : cCell (cSet Y a j x y z) a j = zob 3 [.int x, .int y, .int z] := by unfold cCell; rw [cSet_a, cSet_b, cSet_c, upd_s, upd_s, upd_s]
theorem cCell_n {Y : zSt} {a i j : Nat} {x y z : Int32} (h : i ≠ j) : cCell (cSet Y a j x y z) a i = cCell Y a i := by unfold cCell; rw [cSet_a, cSet_b, cSet_c, upd_n h, upd_n h, upd_n h]
theorem cp_s22 {E : zE} {A : rl → Nat} {K : Nat → Nat → Nat} {X S R : zSt} {j : Nat} {x y z : Int32} (hA : cIj K A) (hj : j < 1260) : zpu (cp E A K X S R) (A (22, j)) (zob 3 [.int x, .int y, .int z]) = cp E A K X (cSet S 20 j x y z) R :=
  cp_upd [20, 50, 60] hA (k := 22) hj tsm_rf cSet_o tsm_rf (by decide) cCell_s (fun i hi _ => cCell_n hi)
theorem cp_s23 {E : zE} {A : rl → Nat} {K : Nat → Nat → Nat} {X S R : zSt} {j : Nat} {x y z : Int32} (hA : cIj K A) (hj : j < 160) : zpu (cp E A K X S R) (A (23, j)) (zob 3 [.int x, .int y, .int z]) = cp E A K X (cSet S 22 j x y z) R :=
  cp_upd [22, 52, 62] hA (k := 23) hj tsm_rf cSet_o tsm_rf (by decide) cCell_s (fun i hi _ => cCell_n hi)
theorem cp_s24 {E : zE} {A : rl → Nat} {K : Nat → Nat → Nat} {X S R : zSt} {j : Nat} {x y z : Int32} (hA : cIj K A) (hj : j < 20) : zpu (cp E A K X S R) (A (24, j)) (zob 3 [.int x, .int y, .int z]) = cp E A K X (cSet S 24 j x y z) R :=
  cp_upd [24, 54, 64] hA (k := 24) hj tsm_rf cSet_o tsm_rf (by decide) cCell_s (fun i hi _ => cCell_n hi)
theorem cp_s25 {E : zE} {A : rl → Nat} {K : Nat → Nat → Nat} {X S R : zSt} {j : Nat} {x y z : Int32} (hA : cIj K A) (hj : j < 4) : zpu (cp E A K X S R) (A (25, j)) (zob 3 [.int x, .int y, .int z]) = cp E A K X (cSet S 26 j x y z) R :=
  cp_upd [26, 56, 66] hA (k := 25) hj tsm_rf cSet_o tsm_rf (by decide) cCell_s (fun i hi _ => cCell_n hi)
/-- one index of one row -/
def cu (Y : zSt) (a j : Nat) (v : Int32) : zSt := va_up Y a (upd (Y a) j v)
theorem cu_s {Y : zSt} {a j : Nat} {v : Int32} : cu Y a j v a j = v := by unfold cu; rw [va_up_self, upd_s]
theorem cu_i {Y : zSt} {a i j : Nat} {v : Int32} (h : i ≠ j) : cu Y a j v a i = Y a i := by unfold cu; rw [va_up_self, upd_n h]
theorem cu_o {Y : zSt} {a b j : Nat} {v : Int32} (h : b ≠ a) : cu Y a j v b = Y b := by unfold cu; rw [va_up_ne _ _ h]
theorem cSet_cu {Y : zSt} {a j : Nat} {z : Int32} : cSet Y a j (Y a j) (Y (a + 30) j) z = cu Y (a + 40) j z := by
  have e : ∀ (f : Nat → Int32), upd f j (f j) = f := fun f => by funext i; unfold upd; split <;> simp_all
  unfold cSet cu
  funext b
  by_cases h1 : b = a + 40
  · subst h1; rw [va_up_self, va_up_self]
  · rw [va_up_ne _ _ h1, va_up_ne _ _ h1]
    by_cases h2 : b = a + 30
    · subst h2; rw [va_up_self, e]
    · rw [va_up_ne _ _ h2]
      by_cases h3 : b = a
      · subst h3; rw [va_up_self, e]
      · rw [va_up_ne _ _ h3]
theorem cp_p19_0 {E : zE} {A : rl → Nat} {K : Nat → Nat → Nat} {X S R : zSt} {j : Nat} {b : Int32} (hA : cIj K A) (hj : j < 210) (hb : b = 0 ∨ b = 1) : zpu (cp E A K X S R) (A (19, j)) (zob 2 [.int b, .int (bI (bz (S 71 j))), .int (bI (bz (S 72 j))), .ref (A (20, j))]) = cp E A K X (cu S 70 j b) R := by
  refine cp_upd [70] hA (k := 19) hj tsm_rf (tsm_up (by decide)) tsm_rf (by decide) ?_ (fun i hi _ => ?_)
  · show zob 2 [.int (bI (bz (cu S 70 j b 70 j))), .int (bI (bz (cu S 70 j b 71 j))), .int (bI (bz (cu S 70 j b 72 j))), .ref (A (20, j))] = _
    rw [cu_s, bI_bz hb, cu_o (b := 71) (by decide), cu_o (b := 72) (by decide)]
  · show zob 2 [.int (bI (bz (cu S 70 j b 70 i))), .int (bI (bz (cu S 70 j b 71 i))), .int (bI (bz (cu S 70 j b 72 i))), .ref (A (20, i))] = _
    rw [cu_i hi, cu_o (b := 71) (by decide), cu_o (b := 72) (by decide)]
    rfl
theorem cp_p19_1 {E : zE} {A : rl → Nat} {K : Nat → Nat → Nat} {X S R : zSt} {j : Nat} {b : Int32} (hA : cIj K A) (hj : j < 210) (hb : b = 0 ∨ b = 1) : zpu (cp E A K X S R) (A (19, j)) (zob 2 [.int (bI (bz (S 70 j))), .int b, .int (bI (bz (S 72 j))), .ref (A (20, j))]) = cp E A K X (cu S 71 j b) R := by
  refine cp_upd [71] hA (k := 19) hj tsm_rf (tsm_up (by decide)) tsm_rf (by decide) ?_ (fun i hi _ => ?_)
  · show zob 2 [.int (bI (bz (cu S 71 j b 70 j))), .int (bI (bz (cu S 71 j b 71 j))), .int (bI (bz (cu S 71 j b 72 j))), .ref (A (20, j))] = _
    rw [cu_s, bI_bz hb, cu_o (b := 70) (by decide), cu_o (b := 72) (by decide)]
  · show zob 2 [.int (bI (bz (cu S 71 j b 70 i))), .int (bI (bz (cu S 71 j b 71 i))), .int (bI (bz (cu S 71 j b 72 i))), .ref (A (20, i))] = _
    rw [cu_i hi, cu_o (b := 70) (by decide), cu_o (b := 72) (by decide)]
    rfl
theorem cp_p19_2 {E : zE} {A : rl → Nat} {K : Nat → Nat → Nat} {X S R : zSt} {j : Nat} {b : Int32} (hA : cIj K A) (hj : j < 210) (hb : b = 0 ∨ b = 1) : zpu (cp E A K X S R) (A (19, j)) (zob 2 [.int (bI (bz (S 70 j))), .int (bI (bz (S 71 j))), .int b, .ref (A (20, j))]) = cp E A K X (cu S 72 j b) R := by
  refine cp_upd [72] hA (k := 19) hj tsm_rf (tsm_up (by decide)) tsm_rf (by decide) ?_ (fun i hi _ => ?_)
  · show zob 2 [.int (bI (bz (cu S 72 j b 70 j))), .int (bI (bz (cu S 72 j b 71 j))), .int (bI (bz (cu S 72 j b 72 j))), .ref (A (20, j))] = _
    rw [cu_s, bI_bz hb, cu_o (b := 70) (by decide), cu_o (b := 71) (by decide)]
  · show zob 2 [.int (bI (bz (cu S 72 j b 70 i))), .int (bI (bz (cu S 72 j b 71 i))), .int (bI (bz (cu S 72 j b 72 i))), .ref (A (20, i))] = _
    rw [cu_i hi, cu_o (b := 70) (by decide), cu_o (b := 71) (by decide)]
    rfl
theorem cp_p0_1 {E : zE} {A : rl → Nat} {K : Nat → Nat → Nat} {X S R : zSt} {v : Int32} (hA : cIj K A) : zpu (cp E A K X S R) (A (0, 0)) (zob 0 [.ref (A (1, 0)), .int v, .ref (A (1, 1)), .int (X 2 0), .ref (A (1, 2)), .ref (A (1, 3)), .int (X 4 0), .ref (A (2, 0)), .ref (A (4, 0)), .ref (A (1, 4)), .int (X 16 0), .int (X 18 0), .ref (A (9, 0)), .int (X 19 0), (if K 104 0 = 0 then .null else .ref (A (26, 0)))]) = cp E A K (va_up X 0 (fun _ => v)) S R :=
  cp_upd [0] hA (k := 0) (j := 0) rfl (tsm_up (by decide)) tsm_rf tsm_rf (by decide) (rfl) (fun i hi h => absurd (h) hi)
theorem cp_p0_3 {E : zE} {A : rl → Nat} {K : Nat → Nat → Nat} {X S R : zSt} {v : Int32} (hA : cIj K A) : zpu (cp E A K X S R) (A (0, 0)) (zob 0 [.ref (A (1, 0)), .int (X 0 0), .ref (A (1, 1)), .int v, .ref (A (1, 2)), .ref (A (1, 3)), .int (X 4 0), .ref (A (2, 0)), .ref (A (4, 0)), .ref (A (1, 4)), .int (X 16 0), .int (X 18 0), .ref (A (9, 0)), .int (X 19 0), (if K 104 0 = 0 then .null else .ref (A (26, 0)))]) = cp E A K (va_up X 2 (fun _ => v)) S R :=
  cp_upd [2] hA (k := 0) (j := 0) rfl (tsm_up (by decide)) tsm_rf tsm_rf (by decide) (rfl) (fun i hi h => absurd (h) hi)
theorem cp_p0_6 {E : zE} {A : rl → Nat} {K : Nat → Nat → Nat} {X S R : zSt} {v : Int32} (hA : cIj K A) : zpu (cp E A K X S R) (A (0, 0)) (zob 0 [.ref (A (1, 0)), .int (X 0 0), .ref (A (1, 1)), .int (X 2 0), .ref (A (1, 2)), .ref (A (1, 3)), .int v, .ref (A (2, 0)), .ref (A (4, 0)), .ref (A (1, 4)), .int (X 16 0), .int (X 18 0), .ref (A (9, 0)), .int (X 19 0), (if K 104 0 = 0 then .null else .ref (A (26, 0)))]) = cp E A K (va_up X 4 (fun _ => v)) S R :=
  cp_upd [4] hA (k := 0) (j := 0) rfl (tsm_up (by decide)) tsm_rf tsm_rf (by decide) (rfl) (fun i hi h => absurd (h) hi)
theorem cp_p0_10 {E : zE} {A : rl → Nat} {K : Nat → Nat → Nat} {X S R : zSt} {v : Int32} (hA : cIj K A) : zpu (cp E A K X S R) (A (0, 0)) (zob 0 [.ref (A (1, 0)), .int (X 0 0), .ref (A (1, 1)), .int (X 2 0), .ref (A (1, 2)), .ref (A (1, 3)), .int (X 4 0), .ref (A (2, 0)), .ref (A (4, 0)), .ref (A (1, 4)), .int v, .int (X 18 0), .ref (A (9, 0)), .int (X 19 0), (if K 104 0 = 0 then .null else .ref (A (26, 0)))]) = cp E A K (va_up X 16 (fun _ => v)) S R :=
  cp_upd [16] hA (k := 0) (j := 0) rfl (tsm_up (by decide)) tsm_rf tsm_rf (by decide) (rfl) (fun i hi h => absurd (h) hi)
theorem cp_p0_11 {E : zE} {A : rl → Nat} {K : Nat → Nat → Nat} {X S R : zSt} {v : Int32} (hA : cIj K A) : zpu (cp E A K X S R) (A (0, 0)) (zob 0 [.ref (A (1, 0)), .int (X 0 0), .ref (A (1, 1)), .int (X 2 0), .ref (A (1, 2)), .ref (A (1, 3)), .int (X 4 0), .ref (A (2, 0)), .ref (A (4, 0)), .ref (A (1, 4)), .int (X 16 0), .int v, .ref (A (9, 0)), .int (X 19 0), (if K 104 0 = 0 then .null else .ref (A (26, 0)))]) = cp E A K (va_up X 18 (fun _ => v)) S R :=
  cp_upd [18] hA (k := 0) (j := 0) rfl (tsm_up (by decide)) tsm_rf tsm_rf (by decide) (rfl) (fun i hi h => absurd (h) hi)
theorem cp_p0_13 {E : zE} {A : rl → Nat} {K : Nat → Nat → Nat} {X S R : zSt} {v : Int32} (hA : cIj K A) : zpu (cp E A K X S R) (A (0, 0)) (zob 0 [.ref (A (1, 0)), .int (X 0 0), .ref (A (1, 1)), .int (X 2 0), .ref (A (1, 2)), .ref (A (1, 3)), .int (X 4 0), .ref (A (2, 0)), .ref (A (4, 0)), .ref (A (1, 4)), .int (X 16 0), .int (X 18 0), .ref (A (9, 0)), .int v, (if K 104 0 = 0 then .null else .ref (A (26, 0)))]) = cp E A K (va_up X 19 (fun _ => v)) S R :=
  cp_upd [19] hA (k := 0) (j := 0) rfl (tsm_up (by decide)) tsm_rf tsm_rf (by decide) (rfl) (fun i hi h => absurd (h) hi)
theorem cp_p9_5 {E : zE} {A : rl → Nat} {K : Nat → Nat → Nat} {X S R : zSt} {v : Int32} (hA : cIj K A) : zpu (cp E A K X S R) (A (9, 0)) (zob 1 [.ref (A (11, 0)), .ref (A (11, 1)), .ref (A (11, 2)), .ref (A (11, 3)), .ref (A (10, 0)), .int v, .ref (A (0, 0))]) = cp E A K X (va_up S 31 (fun _ => v)) R :=
  cp_upd [31] hA (k := 9) (j := 0) rfl tsm_rf (tsm_up (by decide)) tsm_rf (by decide) (rfl) (fun i hi h => absurd (h) hi)
theorem cp_p10 {E : zE} {A : rl → Nat} {K : Nat → Nat → Nat} {X S R : zSt} {f : Nat → Int32} (hA : cIj K A) : zpu (cp E A K X S R) (A (10, 0)) (zeI E 1200 f) = cp E A K X (va_up S 30 f) R :=
  cp_upd [30] hA (k := 10) (j := 0) rfl tsm_rf (tsm_up (by decide)) tsm_rf (by decide) (rfl) (fun i hi h => absurd (h) hi)
theorem cp_p32 {E : zE} {A : rl → Nat} {K : Nat → Nat → Nat} {X S R : zSt} {f : Nat → Int32} (hA : cIj K A) (hf : K 109 0 ≠ 0) : zpu (cp E A K X S R) (A (32, 0)) (zeI E 60 f) = cp E A K X S (va_up R 42 f) :=
  cp_upd [42] hA (k := 32) (j := 0) ⟨rfl, hf⟩ tsm_rf tsm_rf (tsm_up (by decide)) (by decide) (rfl) (fun i hi h => absurd (h.1) hi)
theorem cp_p26_4 {E : zE} {A : rl → Nat} {K : Nat → Nat → Nat} {X S R : zSt} {v : Int32} (hA : cIj K A) (hf : K 109 0 ≠ 0) : zpu (cp E A K X S R) (A (26, 0)) (zob 7 [.ref (A (27, 0)), .ref (A (29, 0)), .ref (A (31, 0)), .ref (A (32, 0)), .int v, .int (bI (bz (R 74 0))), .ref (A (0, 0))]) = cp E A K X S (va_up R 43 (fun _ => v)) :=
  cp_upd [43] hA (k := 26) (j := 0) ⟨rfl, hf⟩ tsm_rf tsm_rf (tsm_up (by decide)) (by decide) (rfl) (fun i hi h => absurd (h.1) hi)
theorem cp_p26_5 {E : zE} {A : rl → Nat} {K : Nat → Nat → Nat} {X S R : zSt} {b : Int32} (hb : b = 0 ∨ b = 1) (hA : cIj K A) (hf : K 109 0 ≠ 0) : zpu (cp E A K X S R) (A (26, 0)) (zob 7 [.ref (A (27, 0)), .ref (A (29, 0)), .ref (A (31, 0)), .ref (A (32, 0)), .int (R 43 0), .int b, .ref (A (0, 0))]) = cp E A K X S (va_up R 74 (fun _ => b)) :=
  cp_upd [74] hA (k := 26) (j := 0) ⟨rfl, hf⟩ tsm_rf tsm_rf (tsm_up (by decide)) (by decide) (congrArg (fun z : Int32 => (zob 7 [.ref (A (27, 0)), .ref (A (29, 0)), .ref (A (31, 0)), .ref (A (32, 0)), .int (R 43 0), .int z, .ref (A (0, 0))] : va_E)) (bI_bz hb)) (fun i hi h => absurd (h.1) hi)
theorem cp_p1_0 {E : zE} {A : rl → Nat} {K : Nat → Nat → Nat} {X S R : zSt} {f : Nat → Int32} (hA : cIj K A) : zpu (cp E A K X S R) (A (1, 0)) (zeI E 8 f) = cp E A K (va_up X 1 f) S R := by
  refine cp_upd [1] hA (k := 1) (j := 0) (show 0 < 5 by decide) (tsm_up (by decide)) tsm_rf tsm_rf (by decide) rfl (fun i hi h => ?_)
  have h' : i < 5 := h
  show zeI E (cal i) (va_up X 1 f (cai i)) = zeI E (cal i) (X (cai i))
  rw [va_up_ne _ _ ((by decide : ∀ i, i < 5 → i ≠ 0 → cai i ≠ 1) i h' hi)]
theorem cp_p1_1 {E : zE} {A : rl → Nat} {K : Nat → Nat → Nat} {X S R : zSt} {f : Nat → Int32} (hA : cIj K A) : zpu (cp E A K X S R) (A (1, 1)) (zeI E 8 f) = cp E A K (va_up X 3 f) S R := by
  refine cp_upd [3] hA (k := 1) (j := 1) (show 1 < 5 by decide) (tsm_up (by decide)) tsm_rf tsm_rf (by decide) rfl (fun i hi h => ?_)
  have h' : i < 5 := h
  show zeI E (cal i) (va_up X 3 f (cai i)) = zeI E (cal i) (X (cai i))
  rw [va_up_ne _ _ ((by decide : ∀ i, i < 5 → i ≠ 1 → cai i ≠ 3) i h' hi)]
theorem cp_p1_2 {E : zE} {A : rl → Nat} {K : Nat → Nat → Nat} {X S R : zSt} {f : Nat → Int32} (hA : cIj K A) : zpu (cp E A K X S R) (A (1, 2)) (zeI E 10 f) = cp E A K (va_up X 5 f) S R := by
  refine cp_upd [5] hA (k := 1) (j := 2) (show 2 < 5 by decide) (tsm_up (by decide)) tsm_rf tsm_rf (by decide) rfl (fun i hi h => ?_)
  have h' : i < 5 := h
  show zeI E (cal i) (va_up X 5 f (cai i)) = zeI E (cal i) (X (cai i))
  rw [va_up_ne _ _ ((by decide : ∀ i, i < 5 → i ≠ 2 → cai i ≠ 5) i h' hi)]
theorem cp_p1_3 {E : zE} {A : rl → Nat} {K : Nat → Nat → Nat} {X S R : zSt} {f : Nat → Int32} (hA : cIj K A) : zpu (cp E A K X S R) (A (1, 3)) (zeI E 10 f) = cp E A K (va_up X 6 f) S R := by
  refine cp_upd [6] hA (k := 1) (j := 3) (show 3 < 5 by decide) (tsm_up (by decide)) tsm_rf tsm_rf (by decide) rfl (fun i hi h => ?_)
  have h' : i < 5 := h
  show zeI E (cal i) (va_up X 6 f (cai i)) = zeI E (cal i) (X (cai i))
  rw [va_up_ne _ _ ((by decide : ∀ i, i < 5 → i ≠ 3 → cai i ≠ 6) i h' hi)]
theorem cp_p1_4 {E : zE} {A : rl → Nat} {K : Nat → Nat → Nat} {X S R : zSt} {f : Nat → Int32} (hA : cIj K A) : zpu (cp E A K X S R) (A (1, 4)) (zeI E 20 f) = cp E A K (va_up X 17 f) S R := by
  refine cp_upd [17] hA (k := 1) (j := 4) (show 4 < 5 by decide) (tsm_up (by decide)) tsm_rf tsm_rf (by decide) rfl (fun i hi h => ?_)
  have h' : i < 5 := h
  show zeI E (cal i) (va_up X 17 f (cai i)) = zeI E (cal i) (X (cai i))
  rw [va_up_ne _ _ ((by decide : ∀ i, i < 5 → i ≠ 4 → cai i ≠ 17) i h' hi)]
