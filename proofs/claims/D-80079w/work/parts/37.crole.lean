/-! the component: roles come and go -/
theorem zM_cs {l : Launch} {E : zE} {y : MethodName} {cc : ByteArray} {nL : Nat} {ret : Option FieldType} {R R' : Room} {av : List Value} {h : zPH} {Po Po' : Option Value → zPH → Prop} (hM : zM l E y cc nL ret R av h Po) (hf : R.frames ≤ R'.frames) (hc : R.cells ≤ R'.cells) (hs : R.slots ≤ R'.slots) (hl : R.locals ≤ R'.locals) (hw : ∀ v h', Po v h' → ∃ h'', zle h'' h' ∧ Po' v h'') : zM l E y cc nL ret R' av h Po' := by
  intro sz p e ha hc0 hk s m args below hfr happ hP hK
  have happ' : (headSpec [.code y cc nL ret] R).appliesLoose y e.platform s = true := by
    unfold Spec.appliesLoose at happ ⊢
    rw [hfr] at happ ⊢
    simp only [Bool.and_eq_true] at happ ⊢
    obtain ⟨⟨a, b⟩, c⟩ := happ
    refine ⟨⟨a, ?_⟩, c⟩
    unfold State.hasRoom headSpec at *
    simp only [Bool.and_eq_true, decide_eq_true_eq] at b ⊢
    obtain ⟨⟨⟨⟨b1, b2, b3, b4, b5, b6⟩, b7⟩, b8⟩, b9⟩ := b
    exact ⟨⟨⟨⟨by omega, by omega, by omega, by omega, by omega, b6⟩, by omega⟩, by omega⟩, b9⟩
  obtain ⟨n, o, g1, g2, g3, ⟨⟨v, h', q1, q2, q3, q4⟩, q5⟩, L, g5, g6⟩ := hM sz p e ha hc0 hk s m args below hfr happ' hP hK
  obtain ⟨h'', w1, w2⟩ := hw v h' q2
  obtain ⟨g7, g8, f1, f2, f3, f4, f5, f6⟩ := g5
  exact ⟨n, o, g1, g2, g3, ⟨⟨v, h'', q1, w2, zhl_le w1 q3, zex_le w1 q4⟩, q5⟩, L, ⟨g7, g8, f1, f2, by omega, f4, by omega, f6⟩, g6⟩
def ku (K : Nat → Nat → Nat) (a i v : Nat) : Nat → Nat → Nat := fun b j => if b = a then (if j = i then v else K b j) else K b j
def ru (A : rl → Nat) (k j q : Nat) : rl → Nat := fun r => if r.1 = k then (if r.2 = j then q else A r) else A r
theorem ku_s {K : Nat → Nat → Nat} {a i v : Nat} : ku K a i v a i = v := by unfold ku; rw [if_pos rfl, if_pos rfl]
theorem ku_n {K : Nat → Nat → Nat} {a i j v : Nat} (h : j ≠ i) : ku K a i v a j = K a j := by unfold ku; rw [if_pos rfl, if_neg h]
theorem ku_o {K : Nat → Nat → Nat} {a b i v : Nat} (h : b ≠ a) : ku K a i v b = K b := by funext j; unfold ku; rw [if_neg h]
theorem ru_s {A : rl → Nat} {k j q : Nat} : ru A k j q (k, j) = q := by unfold ru; rw [if_pos rfl, if_pos rfl]
theorem ru_n {A : rl → Nat} {k j q : Nat} {r : rl} (h : r ≠ (k, j)) : ru A k j q r = A r := by
  unfold ru
  split
  · rename_i h1
    rw [if_neg (fun z => h (by rw [← h1, ← z]))]
  · rfl
theorem ru_i {A : rl → Nat} {k i j q : Nat} (h : i ≠ j) : ru A k j q (k, i) = A (k, i) := ru_n (fun z => h (by injection z))
section CH
variable {E : zE} {A A' : rl → Nat} {K K' : Nat → Nat → Nat} {X X' S S' R R' : zSt} {h : zPH}
theorem cp_chg (hA : cIj K A) (sp : rl → Prop) (hsp : ∀ r, sp r → cdm K' r → h (A' r) = some (cct E A' K' X' S' R' r)) (h1 : ∀ r, ¬ sp r → cdm K r → h (A r) = cp E A K X S R (A r)) (h2 : ∀ r, ¬ sp r → cdm K' r → cdm K r ∧ A' r = A r ∧ cct E A' K' X' S' R' r = cct E A K X S R r) : zle (cp E A' K' X' S' R') h := by
  refine zpm_le (fun r hr => ?_)
  by_cases c : sp r
  · exact hsp r c hr
  · obtain ⟨a, b, d⟩ := h2 r c hr
    rw [b, d, h1 r c a]
    exact zpm_at hA a
theorem cIj_mono (hA : cIj K A) (hd : ∀ r, cdm K' r → cdm K r) : cIj K' A := fun i j hi hj e => hA i j (hd i hi) (hd j hj) e
theorem cp_out {q : Nat} (hA : cIj K A) (hq : cp E A K X S R q = none) {r : rl} (hr : cdm K r) : A r ≠ q := by
  intro z
  have e := zpm_at (ct := cct E A K X S R) hA hr
  rw [z] at e
  unfold cp at hq
  rw [hq] at e
  cases e
theorem cIj_new {k j q : Nat} (hA : cIj K A) (hq : cp E A K X S R q = none) (hd : ∀ r, cdm K' r → r ≠ (k, j) → cdm K r) : cIj K' (ru A k j q) := by
  intro i i' hi hi' e
  by_cases c : i = (k, j)
  · by_cases c' : i' = (k, j)
    · rw [c, c']
    · rw [c, ru_s, ru_n c'] at e
      exact absurd e.symm (cp_out hA hq (hd i' hi' c'))
  · by_cases c' : i' = (k, j)
    · rw [c', ru_s, ru_n c] at e
      exact absurd e (cp_out hA hq (hd i hi c))
    · rw [ru_n c, ru_n c'] at e
      exact hA i i' (hd i hi c) (hd i' hi' c') e
end CH
theorem fe_s {n : Nat} {f g : Nat → Nat} (h : ∀ i, i < n → f i = g i) : (fun i => if i < n then some (f i) else none) = (fun i => if i < n then some (g i) else none) := by
  funext i
  by_cases c : i < n
  · rw [if_pos c, if_pos c, h i c]
  · rw [if_neg c, if_neg c]
theorem fe_o {n : Nat} {f g : Nat → Option Nat} (h : ∀ i, i < n → f i = g i) : (fun i => if i < n then f i else none) = (fun i => if i < n then g i else none) := by
  funext i
  by_cases c : i < n
  · rw [if_pos c, if_pos c, h i c]
  · rw [if_neg c, if_neg c]
section CK
variable {E : zE} {A A' : rl → Nat} {K K' : Nat → Nat → Nat} {X X' S S' R R' : zSt} {j : Nat}
theorem cct_k0 (h0 : X' 0 0 = X 0 0) (h1 : X' 2 0 = X 2 0) (h2 : X' 4 0 = X 4 0) (h3 : X' 16 0 = X 16 0) (h4 : X' 18 0 = X 18 0) (h5 : X' 19 0 = X 19 0) (h6 : K' 104 0 = K 104 0) (h7 : A' (1, 0) = A (1, 0)) (h8 : A' (1, 1) = A (1, 1)) (h9 : A' (1, 2) = A (1, 2)) (h10 : A' (1, 3) = A (1, 3)) (h11 : A' (2, 0) = A (2, 0)) (h12 : A' (4, 0) = A (4, 0)) (h13 : A' (1, 4) = A (1, 4)) (h14 : A' (9, 0) = A (9, 0)) (h15 : A' (26, 0) = A (26, 0)) : cct E A' K' X' S' R' (0, j) = cct E A K X S R (0, j) := by
  show zob 0 [.ref (A' (1, 0)), .int (X' 0 0), .ref (A' (1, 1)), .int (X' 2 0), .ref (A' (1, 2)), .ref (A' (1, 3)), .int (X' 4 0), .ref (A' (2, 0)), .ref (A' (4, 0)), .ref (A' (1, 4)), .int (X' 16 0), .int (X' 18 0), .ref (A' (9, 0)), .int (X' 19 0), (if K' 104 0 = 0 then .null else .ref (A' (26, 0)))] = zob 0 [.ref (A (1, 0)), .int (X 0 0), .ref (A (1, 1)), .int (X 2 0), .ref (A (1, 2)), .ref (A (1, 3)), .int (X 4 0), .ref (A (2, 0)), .ref (A (4, 0)), .ref (A (1, 4)), .int (X 16 0), .int (X 18 0), .ref (A (9, 0)), .int (X 19 0), (if K 104 0 = 0 then .null else .ref (A (26, 0)))]
  first | rfl | simp only [cCell, car, h0, h1, h2, h3, h4, h5, h6, h7, h8, h9, h10, h11, h12, h13, h14, h15]
theorem cct_k1 (h0 : X' (cai j) = X (cai j)) : cct E A' K' X' S' R' (1, j) = cct E A K X S R (1, j) := by
  show zeI E (cal j) (X' (cai j)) = zeI E (cal j) (X (cai j))
  first | rfl | simp only [cCell, car, h0]
theorem cct_k2 (h0 : K' 0 0 = K 0 0) (h1 : A' (3, 0) = A (3, 0)) (h2 : K' 75 0 = K 75 0) (h3 : K' 101 0 = K 101 0) : cct E A' K' X' S' R' (2, j) = cct E A K X S R (2, j) := by
  show zob 9 [.int (nI (K' 75 0)), car E A' K' 3 0 0 0, .int (nI (K' 101 0))] = zob 9 [.int (nI (K 75 0)), car E A K 3 0 0 0, .int (nI (K 101 0))]
  first | rfl | simp only [cCell, car, h0, h1, h2, h3]
theorem cct_k3 (h0 : K' 0 0 = K 0 0) (h1 : K' 101 0 = K 101 0) (h2 : ∀ i, i < K 101 0 → A' (8, i) = A (8, i)) : cct E A' K' X' S' R' (3, j) = cct E A K X S R (3, j) := by
  show zeO E (K' 0 0) (fun i => if i < K' 101 0 then some (A' (8, i)) else none) = zeO E (K 0 0) (fun i => if i < K 101 0 then some (A (8, i)) else none)
  rw [h0, h1, fe_s h2]
theorem cct_k4 (h0 : K' 1 0 = K 1 0) (h1 : A' (5, 0) = A (5, 0)) (h2 : K' 76 0 = K 76 0) (h3 : K' 100 0 = K 100 0) : cct E A' K' X' S' R' (4, j) = cct E A K X S R (4, j) := by
  show zob 9 [.int (nI (K' 76 0)), car E A' K' 5 1 0 0, .int (nI (K' 100 0))] = zob 9 [.int (nI (K 76 0)), car E A K 5 1 0 0, .int (nI (K 100 0))]
  first | rfl | simp only [cCell, car, h0, h1, h2, h3]
theorem cct_k5 (h0 : K' 1 0 = K 1 0) (h1 : K' 100 0 = K 100 0) (h2 : ∀ i, i < K 100 0 → A' (6, i) = A (6, i)) : cct E A' K' X' S' R' (5, j) = cct E A K X S R (5, j) := by
  show zeO E (K' 1 0) (fun i => if i < K' 100 0 then some (A' (6, i)) else none) = zeO E (K 1 0) (fun i => if i < K 100 0 then some (A (6, i)) else none)
  rw [h0, h1, fe_s h2]
theorem cct_k6 (h0 : K' 2 j = K 2 j) (h1 : A' (7, j) = A (7, j)) (h2 : K' 77 j = K 77 j) (h3 : K' 110 j = K 110 j) : cct E A' K' X' S' R' (6, j) = cct E A K X S R (6, j) := by
  show zob 9 [.int (nI (K' 77 j)), car E A' K' 7 2 j j, .int (nI (K' 110 j))] = zob 9 [.int (nI (K 77 j)), car E A K 7 2 j j, .int (nI (K 110 j))]
  first | rfl | simp only [cCell, car, h0, h1, h2, h3]
theorem cct_k7 (h0 : K' 2 j = K 2 j) (h1 : K' 110 j = K 110 j) (h2 : ∀ i, i < K 110 j → A' (8, K' 1000 (100 * j + i)) = A (8, K 1000 (100 * j + i))) : cct E A' K' X' S' R' (7, j) = cct E A K X S R (7, j) := by
  show zeO E (K' 2 j) (fun i => if i < K' 110 j then some (A' (8, K' 1000 (100 * j + i))) else none) = zeO E (K 2 j) (fun i => if i < K 110 j then some (A (8, K 1000 (100 * j + i))) else none)
  rw [h0, h1, fe_s h2]
theorem cct_k8 (h0 : X' 8 j = X 8 j) (h1 : X' 9 j = X 9 j) (h2 : X' 10 j = X 10 j) (h3 : X' 11 j = X 11 j) (h4 : X' 12 j = X 12 j) (h5 : X' 13 j = X 13 j) (h6 : X' 14 j = X 14 j) (h7 : X' 15 j = X 15 j) : cct E A' K' X' S' R' (8, j) = cct E A K X S R (8, j) := by
  show zob 4 [.int (X' 8 j), .int (X' 9 j), .int (X' 10 j), .int (X' 11 j), .int (X' 12 j), .int (X' 13 j), .int (X' 14 j), .int (X' 15 j)] = zob 4 [.int (X 8 j), .int (X 9 j), .int (X 10 j), .int (X 11 j), .int (X 12 j), .int (X 13 j), .int (X 14 j), .int (X 15 j)]
  first | rfl | simp only [cCell, car, h0, h1, h2, h3, h4, h5, h6, h7]
theorem cct_k9 (h0 : S' 31 0 = S 31 0) (h1 : A' (11, 0) = A (11, 0)) (h2 : A' (11, 1) = A (11, 1)) (h3 : A' (11, 2) = A (11, 2)) (h4 : A' (11, 3) = A (11, 3)) (h5 : A' (10, 0) = A (10, 0)) (h6 : A' (0, 0) = A (0, 0)) : cct E A' K' X' S' R' (9, j) = cct E A K X S R (9, j) := by
  show zob 1 [.ref (A' (11, 0)), .ref (A' (11, 1)), .ref (A' (11, 2)), .ref (A' (11, 3)), .ref (A' (10, 0)), .int (S' 31 0), .ref (A' (0, 0))] = zob 1 [.ref (A (11, 0)), .ref (A (11, 1)), .ref (A (11, 2)), .ref (A (11, 3)), .ref (A (10, 0)), .int (S 31 0), .ref (A (0, 0))]
  first | rfl | simp only [cCell, car, h0, h1, h2, h3, h4, h5, h6]
theorem cct_k10 (h0 : S' 30 = S 30) : cct E A' K' X' S' R' (10, j) = cct E A K X S R (10, j) := by
  show zeI E 1200 (S' 30) = zeI E 1200 (S 30)
  first | rfl | simp only [cCell, car, h0]
theorem cct_k11 (h0 : S' 77 (30 + j) = S 77 (30 + j)) (h1 : A' (12, j) = A (12, j)) : cct E A' K' X' S' R' (11, j) = cct E A K X S R (11, j) := by
  show zob 9 [.int (S' 77 (30 + j)), .ref (A' (12, j)), .int (nI (csz j))] = zob 9 [.int (S 77 (30 + j)), .ref (A (12, j)), .int (nI (csz j))]
  first | rfl | simp only [cCell, car, h0, h1]
theorem cct_k12 (h0 : ∀ i, A' (crl j, i) = A (crl j, i)) : cct E A' K' X' S' R' (12, j) = cct E A K X S R (12, j) := by
  show zeO E (ccp j) (fun i => if i < csz j then some (A' (crl j, i)) else none) = zeO E (ccp j) (fun i => if i < csz j then some (A (crl j, i)) else none)
  first | rfl | simp only [cCell, car, h0]
theorem cct_k19 (h0 : S' 70 j = S 70 j) (h1 : S' 71 j = S 71 j) (h2 : S' 72 j = S 72 j) (h3 : A' (20, j) = A (20, j)) : cct E A' K' X' S' R' (19, j) = cct E A K X S R (19, j) := by
  show zob 2 [.int (bI (bz (S' 70 j))), .int (bI (bz (S' 71 j))), .int (bI (bz (S' 72 j))), .ref (A' (20, j))] = zob 2 [.int (bI (bz (S 70 j))), .int (bI (bz (S 71 j))), .int (bI (bz (S 72 j))), .ref (A (20, j))]
  first | rfl | simp only [cCell, car, h0, h1, h2, h3]
theorem cct_k20 (h0 : S' 77 (40 + j) = S 77 (40 + j)) (h1 : A' (21, j) = A (21, j)) : cct E A' K' X' S' R' (20, j) = cct E A K X S R (20, j) := by
  show zob 9 [.int (S' 77 (40 + j)), .ref (A' (21, j)), .int (nI (6))] = zob 9 [.int (S 77 (40 + j)), .ref (A (21, j)), .int (nI (6))]
  first | rfl | simp only [cCell, car, h0, h1]
theorem cct_k21 (h0 : ∀ i, A' (22, 6 * j + i) = A (22, 6 * j + i)) : cct E A' K' X' S' R' (21, j) = cct E A K X S R (21, j) := by
  show zeO E 10 (fun i => if i < 6 then some (A' (22, 6 * j + i)) else none) = zeO E 10 (fun i => if i < 6 then some (A (22, 6 * j + i)) else none)
  first | rfl | simp only [cCell, car, h0]
theorem cct_k22 (h0 : S' 20 j = S 20 j) (h1 : S' (20 + 30) j = S (20 + 30) j) (h2 : S' (20 + 40) j = S (20 + 40) j) : cct E A' K' X' S' R' (22, j) = cct E A K X S R (22, j) := by
  show cCell S' 20 j = cCell S 20 j
  first | rfl | simp only [cCell, car, h0, h1, h2]
theorem cct_k23 (h0 : S' 22 j = S 22 j) (h1 : S' (22 + 30) j = S (22 + 30) j) (h2 : S' (22 + 40) j = S (22 + 40) j) : cct E A' K' X' S' R' (23, j) = cct E A K X S R (23, j) := by
  show cCell S' 22 j = cCell S 22 j
  first | rfl | simp only [cCell, car, h0, h1, h2]
theorem cct_k24 (h0 : S' 24 j = S 24 j) (h1 : S' (24 + 30) j = S (24 + 30) j) (h2 : S' (24 + 40) j = S (24 + 40) j) : cct E A' K' X' S' R' (24, j) = cct E A K X S R (24, j) := by
  show cCell S' 24 j = cCell S 24 j
  first | rfl | simp only [cCell, car, h0, h1, h2]
theorem cct_k25 (h0 : S' 26 j = S 26 j) (h1 : S' (26 + 30) j = S (26 + 30) j) (h2 : S' (26 + 40) j = S (26 + 40) j) : cct E A' K' X' S' R' (25, j) = cct E A K X S R (25, j) := by
  show cCell S' 26 j = cCell S 26 j
  first | rfl | simp only [cCell, car, h0, h1, h2]
theorem cct_k26 (h0 : R' 43 0 = R 43 0) (h1 : R' 74 0 = R 74 0) (h2 : A' (27, 0) = A (27, 0)) (h3 : A' (29, 0) = A (29, 0)) (h4 : A' (31, 0) = A (31, 0)) (h5 : A' (32, 0) = A (32, 0)) (h6 : A' (0, 0) = A (0, 0)) : cct E A' K' X' S' R' (26, j) = cct E A K X S R (26, j) := by
  show zob 7 [.ref (A' (27, 0)), .ref (A' (29, 0)), .ref (A' (31, 0)), .ref (A' (32, 0)), .int (R' 43 0), .int (bI (bz (R' 74 0))), .ref (A' (0, 0))] = zob 7 [.ref (A (27, 0)), .ref (A (29, 0)), .ref (A (31, 0)), .ref (A (32, 0)), .int (R 43 0), .int (bI (bz (R 74 0))), .ref (A (0, 0))]
  first | rfl | simp only [cCell, car, h0, h1, h2, h3, h4, h5, h6]
theorem cct_k27 (h0 : K' 20 0 = K 20 0) (h1 : A' (28, 0) = A (28, 0)) (h2 : K' 78 0 = K 78 0) (h3 : K' 102 0 = K 102 0) : cct E A' K' X' S' R' (27, j) = cct E A K X S R (27, j) := by
  show zob 9 [.int (nI (K' 78 0)), car E A' K' 28 20 0 0, .int (nI (K' 102 0))] = zob 9 [.int (nI (K 78 0)), car E A K 28 20 0 0, .int (nI (K 102 0))]
  first | rfl | simp only [cCell, car, h0, h1, h2, h3]
theorem cct_k28 (h0 : K' 20 0 = K 20 0) (h1 : K' 102 0 = K 102 0) (h2 : ∀ i, i < K 102 0 → A' (33, i) = A (33, i)) : cct E A' K' X' S' R' (28, j) = cct E A K X S R (28, j) := by
  show zeO E (K' 20 0) (fun i => if i < K' 102 0 then some (A' (33, i)) else none) = zeO E (K 20 0) (fun i => if i < K 102 0 then some (A (33, i)) else none)
  rw [h0, h1, fe_s h2]
theorem cct_k29 (h0 : K' 103 0 = K 103 0) (h1 : A' (30, 0) = A (30, 0)) : cct E A' K' X' S' R' (29, j) = cct E A K X S R (29, j) := by
  show zob 10 [.ref (A' (30, 0)), .int (nI (chd (K' 103 0))), .int (nI 0)] = zob 10 [.ref (A (30, 0)), .int (nI (chd (K 103 0))), .int (nI 0)]
  first | rfl | simp only [cCell, car, h0, h1]
theorem cct_k30 (h0 : K' 103 0 = K 103 0) (h1 : ∀ i, i < K 103 0 → A' (35, i) = A (35, i)) : cct E A' K' X' S' R' (30, j) = cct E A K X S R (30, j) := by
  show zeO E 17 (fun x => if 17 - K' 103 0 ≤ x ∧ x < 17 then some (A' (35, 16 - x)) else none) = zeO E 17 (fun x => if 17 - K 103 0 ≤ x ∧ x < 17 then some (A (35, 16 - x)) else none)
  rw [h0]
  have e : (fun x => if 17 - K 103 0 ≤ x ∧ x < 17 then some (A' (35, 16 - x)) else none) = (fun x => if 17 - K 103 0 ≤ x ∧ x < 17 then some (A (35, 16 - x)) else none) := by
    funext x
    by_cases c : 17 - K 103 0 ≤ x ∧ x < 17
    · rw [if_pos c, if_pos c, h1 _ (by omega)]
    · rw [if_neg c, if_neg c]
  rw [e]
theorem cct_k31 (h0 : ∀ i, i < 4 → thr A' (R' 36 i) = thr A (R 36 i)) : cct E A' K' X' S' R' (31, j) = cct E A K X S R (31, j) := by
  show zeT E 4 (fun i => if i < 4 then thr A' (R' 36 i) else none) = zeT E 4 (fun i => if i < 4 then thr A (R 36 i) else none)
  rw [fe_o h0]
theorem cct_k32 (h0 : R' 42 = R 42) : cct E A' K' X' S' R' (32, j) = cct E A K X S R (32, j) := by
  show zeI E 60 (R' 42) = zeI E 60 (R 42)
  first | rfl | simp only [cCell, car, h0]
theorem cct_k33 (h0 : R' 33 j = R 33 j) (h1 : A' (34, j) = A (34, j)) (h2 : thr A' (R' 35 j) = thr A (R 35 j)) : cct E A' K' X' S' R' (33, j) = cct E A K X S R (33, j) := by
  show zob 5 [.int (R' 33 j), .ref (A' (34, j)), va_rf (thr A' (R' 35 j))] = zob 5 [.int (R 33 j), .ref (A (34, j)), va_rf (thr A (R 35 j))]
  rw [h0, h1, h2]
theorem cct_k34 (h0 : ∀ i, i < 8 → thr A' (R' 34 (8 * j + i)) = thr A (R 34 (8 * j + i))) : cct E A' K' X' S' R' (34, j) = cct E A K X S R (34, j) := by
  show zeT E 8 (fun i => if i < 8 then thr A' (R' 34 (8 * j + i)) else none) = zeT E 8 (fun i => if i < 8 then thr A (R 34 (8 * j + i)) else none)
  rw [fe_o h0]
theorem cct_k35 (h0 : R' 38 j = R 38 j) (h1 : R' 39 j = R 39 j) (h2 : A' (8, K' 2000 j) = A (8, K 2000 j)) (h3 : A' (36, j) = A (36, j)) : cct E A' K' X' S' R' (35, j) = cct E A K X S R (35, j) := by
  show zob 6 [.int (R' 38 j), .int (R' 39 j), (if j = 0 then .null else .ref (A' (8, K' 2000 j))), .ref (A' (36, j))] = zob 6 [.int (R 38 j), .int (R 39 j), (if j = 0 then .null else .ref (A (8, K 2000 j))), .ref (A (36, j))]
  rw [h0, h1, h2, h3]
theorem cct_k36 (h0 : ∀ i, i < 6 → thr A' (R' 41 (6 * j + i)) = thr A (R 41 (6 * j + i))) : cct E A' K' X' S' R' (36, j) = cct E A K X S R (36, j) := by
  show zeT E 6 (fun i => if i < 6 then thr A' (R' 41 (6 * j + i)) else none) = zeT E 6 (fun i => if i < 6 then thr A (R 41 (6 * j + i)) else none)
  rw [fe_o h0]
end CK
/-- latest is forgotten -/
abbrev kz (K : Nat → Nat → Nat) : Nat → Nat → Nat := ku (ku K 104 0 0) 109 0 0
theorem cdm_kz {K : Nat → Nat → Nat} {r : rl} (hr : cdm (kz K) r) : cdm K r := by
  obtain ⟨k, j⟩ := r
  unfold cdm at hr
  split at hr
  · rename_i q0; injection q0 with q1 q2; subst q1; subst q2
    exact hr
  · rename_i q0; injection q0 with q1 q2; subst q1; subst q2
    exact hr
  · rename_i q0; injection q0 with q1 q2; subst q1; subst q2
    exact hr
  · rename_i q0; injection q0 with q1 q2; subst q1; subst q2
    exact hr
  · rename_i q0; injection q0 with q1 q2; subst q1; subst q2
    exact hr
  · rename_i q0; injection q0 with q1 q2; subst q1; subst q2
    exact hr
  · rename_i q0; injection q0 with q1 q2; subst q1; subst q2
    exact hr
  · rename_i q0; injection q0 with q1 q2; subst q1; subst q2
    exact hr
  · rename_i q0; injection q0 with q1 q2; subst q1; subst q2
    exact hr
  · rename_i q0; injection q0 with q1 q2; subst q1; subst q2
    exact hr
  · rename_i q0; injection q0 with q1 q2; subst q1; subst q2
    exact hr
  · rename_i q0; injection q0 with q1 q2; subst q1; subst q2
    exact hr
  · rename_i q0; injection q0 with q1 q2; subst q1; subst q2
    exact hr
  · rename_i q0; injection q0 with q1 q2; subst q1; subst q2
    exact hr
  · rename_i q0; injection q0 with q1 q2; subst q1; subst q2
    exact hr
  · rename_i q0; injection q0 with q1 q2; subst q1; subst q2
    exact hr
  · rename_i q0; injection q0 with q1 q2; subst q1; subst q2
    exact hr
  · rename_i q0; injection q0 with q1 q2; subst q1; subst q2
    exact hr
  · rename_i q0; injection q0 with q1 q2; subst q1; subst q2
    exact hr
  · rename_i q0; injection q0 with q1 q2; subst q1; subst q2
    exact hr
  · rename_i q0; injection q0 with q1 q2; subst q1; subst q2
    exact absurd rfl hr.2
  · rename_i q0; injection q0 with q1 q2; subst q1; subst q2
    exact absurd rfl hr.2
  · rename_i q0; injection q0 with q1 q2; subst q1; subst q2
    exact absurd rfl hr.2.1
  · rename_i q0; injection q0 with q1 q2; subst q1; subst q2
    exact absurd rfl hr.2
  · rename_i q0; injection q0 with q1 q2; subst q1; subst q2
    exact absurd rfl hr.2
  · rename_i q0; injection q0 with q1 q2; subst q1; subst q2
    exact absurd rfl hr.2
  · rename_i q0; injection q0 with q1 q2; subst q1; subst q2
    exact absurd rfl hr.2
  · rename_i q0; injection q0 with q1 q2; subst q1; subst q2
    exact absurd rfl hr.2
  · rename_i q0; injection q0 with q1 q2; subst q1; subst q2
    exact absurd rfl hr.2
  · rename_i q0; injection q0 with q1 q2; subst q1; subst q2
    exact absurd rfl hr.2
  · rename_i q0; injection q0 with q1 q2; subst q1; subst q2
    exact absurd rfl hr.2
  · exact hr.elim
set_option maxRecDepth 100000 in
theorem cp_nul {E : zE} {A : rl → Nat} {K : Nat → Nat → Nat} {X S R : zSt} (R' : zSt) (hA : cIj K A) : zle (cp E A (kz K) X S R') (zpu (cp E A K X S R) (A (0, 0)) (zob 0 [.ref (A (1, 0)), .int (X 0 0), .ref (A (1, 1)), .int (X 2 0), .ref (A (1, 2)), .ref (A (1, 3)), .int (X 4 0), .ref (A (2, 0)), .ref (A (4, 0)), .ref (A (1, 4)), .int (X 16 0), .int (X 18 0), .ref (A (9, 0)), .int (X 19 0), .null])) := by
  refine cp_chg hA (fun r => r = (0, 0)) (fun r hs _ => by rw [hs]; exact zpu_s) (fun r hs hd => zpu_n (fun z => hs (hA _ _ hd (show cdm K (0, 0) from rfl) z))) (fun r hs hr => ?_)
  obtain ⟨k, j⟩ := r
  unfold cdm at hr
  split at hr
  · rename_i q0; injection q0 with q1 q2; subst q1; subst q2
    exact absurd (by rw [show j = 0 from hr]) hs
  · rename_i q0; injection q0 with q1 q2; subst q1; subst q2
    exact ⟨hr, rfl, (cct_k1 rfl)⟩
  · rename_i q0; injection q0 with q1 q2; subst q1; subst q2
    exact ⟨hr, rfl, (cct_k2 rfl rfl rfl rfl)⟩
  · rename_i q0; injection q0 with q1 q2; subst q1; subst q2
    exact ⟨hr, rfl, (cct_k3 rfl rfl (fun _ _ => rfl))⟩
  · rename_i q0; injection q0 with q1 q2; subst q1; subst q2
    exact ⟨hr, rfl, (cct_k4 rfl rfl rfl rfl)⟩
  · rename_i q0; injection q0 with q1 q2; subst q1; subst q2
    exact ⟨hr, rfl, (cct_k5 rfl rfl (fun _ _ => rfl))⟩
  · rename_i q0; injection q0 with q1 q2; subst q1; subst q2
    exact ⟨hr, rfl, (cct_k6 rfl rfl rfl rfl)⟩
  · rename_i q0; injection q0 with q1 q2; subst q1; subst q2
    exact ⟨hr, rfl, (cct_k7 rfl rfl (fun _ _ => rfl))⟩
  · rename_i q0; injection q0 with q1 q2; subst q1; subst q2
    exact ⟨hr, rfl, (cct_k8 rfl rfl rfl rfl rfl rfl rfl rfl)⟩
  · rename_i q0; injection q0 with q1 q2; subst q1; subst q2
    exact ⟨hr, rfl, (cct_k9 rfl rfl rfl rfl rfl rfl rfl)⟩
  · rename_i q0; injection q0 with q1 q2; subst q1; subst q2
    exact ⟨hr, rfl, (cct_k10 rfl)⟩
  · rename_i q0; injection q0 with q1 q2; subst q1; subst q2
    exact ⟨hr, rfl, (cct_k11 rfl rfl)⟩
  · rename_i q0; injection q0 with q1 q2; subst q1; subst q2
    exact ⟨hr, rfl, (cct_k12 (fun _ => rfl))⟩
  · rename_i q0; injection q0 with q1 q2; subst q1; subst q2
    exact ⟨hr, rfl, (cct_k19 rfl rfl rfl rfl)⟩
  · rename_i q0; injection q0 with q1 q2; subst q1; subst q2
    exact ⟨hr, rfl, (cct_k20 rfl rfl)⟩
  · rename_i q0; injection q0 with q1 q2; subst q1; subst q2
    exact ⟨hr, rfl, (cct_k21 (fun _ => rfl))⟩
  · rename_i q0; injection q0 with q1 q2; subst q1; subst q2
    exact ⟨hr, rfl, (cct_k22 rfl rfl rfl)⟩
  · rename_i q0; injection q0 with q1 q2; subst q1; subst q2
    exact ⟨hr, rfl, (cct_k23 rfl rfl rfl)⟩
  · rename_i q0; injection q0 with q1 q2; subst q1; subst q2
    exact ⟨hr, rfl, (cct_k24 rfl rfl rfl)⟩
  · rename_i q0; injection q0 with q1 q2; subst q1; subst q2
    exact ⟨hr, rfl, (cct_k25 rfl rfl rfl)⟩
  · rename_i q0; injection q0 with q1 q2; subst q1; subst q2
    exact absurd rfl hr.2
  · rename_i q0; injection q0 with q1 q2; subst q1; subst q2
    exact absurd rfl hr.2
  · rename_i q0; injection q0 with q1 q2; subst q1; subst q2
    exact absurd rfl hr.2.1
  · rename_i q0; injection q0 with q1 q2; subst q1; subst q2
    exact absurd rfl hr.2
  · rename_i q0; injection q0 with q1 q2; subst q1; subst q2
    exact absurd rfl hr.2
  · rename_i q0; injection q0 with q1 q2; subst q1; subst q2
    exact absurd rfl hr.2
  · rename_i q0; injection q0 with q1 q2; subst q1; subst q2
    exact absurd rfl hr.2
  · rename_i q0; injection q0 with q1 q2; subst q1; subst q2
    exact absurd rfl hr.2
  · rename_i q0; injection q0 with q1 q2; subst q1; subst q2
    exact absurd rfl hr.2
  · rename_i q0; injection q0 with q1 q2; subst q1; subst q2
    exact absurd rfl hr.2
  · rename_i q0; injection q0 with q1 q2; subst q1; subst q2
    exact absurd rfl hr.2
  · exact hr.elim
abbrev rm_P_change : Room := { frames := 0, cells := 0, slots := 0, locals := 0 }
set_option maxHeartbeats 4000000 in
set_option maxRecDepth 100000 in
theorem c_P_change (l : Launch) (E : zE) {A : rl → Nat} {K : Nat → Nat → Nat} (hA : cIj K A) (X S R : zSt) (R' : zSt) : zM l E y_P_change b_P_change 1 (none) rm_P_change [.ref (A (0, 0))] (cp E A K X S R) (zPv (cp E A (kz K) (va_up X 19 (fun _ => nI 0)) S R')) := by
  refine zM_w (by decide +kernel) rfl rfl (fun sz => ?_)
  refine z_aload_n d_P_change_0 rfl ?_
  refine z_iconst d_P_change_1 ic_0 ?_
  refine z_put fp_P_55 d_P_change_2 (cp_0 hA) (z_nb nz_0) (z_fb nz_0) (zlt rfl) ?_
  refine z_eqh (cp_p0_13 hA) ?_
  refine z_aload_n d_P_change_5 rfl ?_
  refine z_null d_P_change_6 ?_
  refine z_put fp_P_59 d_P_change_7 (cp_0 hA) rfl rfl (zlt rfl) ?_
  refine z_le (cp_nul R' hA) ?_
  exact z_vret rfl d_P_change_10 (zlq rfl) (zlq rfl) (⟨rfl, rfl⟩)
theorem cai_lt (j : Nat) : cai j < 20 := by unfold cai; split <;> decide
theorem zpm_eq' {ι : Type} {dm : ι → Prop} {A : ι → Nat} {ct ct' : ι → va_E} (h : ∀ j, dm j → ct j = ct' j) : zpm dm A ct = zpm dm A ct' := by
  funext a
  unfold zpm
  by_cases c : ∃ i, dm i ∧ A i = a
  · rw [dif_pos c, dif_pos c, h _ c.choose_spec.1]
  · rw [dif_neg c, dif_neg c]
theorem cp_eqX {E : zE} {A : rl → Nat} {K : Nat → Nat → Nat} {X X' S R R' : zSt} (hx : ∀ b, b < 20 → b ≠ 7 → X' b = X b) (hr : ∀ b, 32 ≤ b → R' b = R b) : cp E A K X' S R' = cp E A K X S R := by
  unfold cp
  refine zpm_eq' (fun r hr0 => ?_)
  obtain ⟨k, j⟩ := r
  unfold cdm at hr0
  split at hr0
  · rename_i q0; injection q0 with q1 q2; subst q1; subst q2
    exact cct_k0 (congrFun (hx 0 (by decide) (by decide)) _) (congrFun (hx 2 (by decide) (by decide)) _) (congrFun (hx 4 (by decide) (by decide)) _) (congrFun (hx 16 (by decide) (by decide)) _) (congrFun (hx 18 (by decide) (by decide)) _) (congrFun (hx 19 (by decide) (by decide)) _) rfl rfl rfl rfl rfl rfl rfl rfl rfl rfl
  · rename_i q0; injection q0 with q1 q2; subst q1; subst q2
    exact cct_k1 (hx _ (cai_lt j) (by unfold cai; split <;> decide))
  · rename_i q0; injection q0 with q1 q2; subst q1; subst q2
    exact (cct_k2 rfl rfl rfl rfl)
  · rename_i q0; injection q0 with q1 q2; subst q1; subst q2
    exact (cct_k3 rfl rfl (fun _ _ => rfl))
  · rename_i q0; injection q0 with q1 q2; subst q1; subst q2
    exact (cct_k4 rfl rfl rfl rfl)
  · rename_i q0; injection q0 with q1 q2; subst q1; subst q2
    exact (cct_k5 rfl rfl (fun _ _ => rfl))
  · rename_i q0; injection q0 with q1 q2; subst q1; subst q2
    exact (cct_k6 rfl rfl rfl rfl)
  · rename_i q0; injection q0 with q1 q2; subst q1; subst q2
    exact (cct_k7 rfl rfl (fun _ _ => rfl))
  · rename_i q0; injection q0 with q1 q2; subst q1; subst q2
    exact cct_k8 (congrFun (hx 8 (by decide) (by decide)) _) (congrFun (hx 9 (by decide) (by decide)) _) (congrFun (hx 10 (by decide) (by decide)) _) (congrFun (hx 11 (by decide) (by decide)) _) (congrFun (hx 12 (by decide) (by decide)) _) (congrFun (hx 13 (by decide) (by decide)) _) (congrFun (hx 14 (by decide) (by decide)) _) (congrFun (hx 15 (by decide) (by decide)) _)
  · rename_i q0; injection q0 with q1 q2; subst q1; subst q2
    exact (cct_k9 rfl rfl rfl rfl rfl rfl rfl)
  · rename_i q0; injection q0 with q1 q2; subst q1; subst q2
    exact (cct_k10 rfl)
  · rename_i q0; injection q0 with q1 q2; subst q1; subst q2
    exact (cct_k11 rfl rfl)
  · rename_i q0; injection q0 with q1 q2; subst q1; subst q2
    exact (cct_k12 (fun _ => rfl))
  · rename_i q0; injection q0 with q1 q2; subst q1; subst q2
    exact (cct_k19 rfl rfl rfl rfl)
  · rename_i q0; injection q0 with q1 q2; subst q1; subst q2
    exact (cct_k20 rfl rfl)
  · rename_i q0; injection q0 with q1 q2; subst q1; subst q2
    exact (cct_k21 (fun _ => rfl))
  · rename_i q0; injection q0 with q1 q2; subst q1; subst q2
    exact (cct_k22 rfl rfl rfl)
  · rename_i q0; injection q0 with q1 q2; subst q1; subst q2
    exact (cct_k23 rfl rfl rfl)
  · rename_i q0; injection q0 with q1 q2; subst q1; subst q2
    exact (cct_k24 rfl rfl rfl)
  · rename_i q0; injection q0 with q1 q2; subst q1; subst q2
    exact (cct_k25 rfl rfl rfl)
  · rename_i q0; injection q0 with q1 q2; subst q1; subst q2
    exact cct_k26 (congrFun (hr 43 (by decide)) _) (congrFun (hr 74 (by decide)) _) rfl rfl rfl rfl rfl
  · rename_i q0; injection q0 with q1 q2; subst q1; subst q2
    exact (cct_k27 rfl rfl rfl rfl)
  · rename_i q0; injection q0 with q1 q2; subst q1; subst q2
    exact (cct_k28 rfl rfl (fun _ _ => rfl))
  · rename_i q0; injection q0 with q1 q2; subst q1; subst q2
    exact (cct_k29 rfl rfl)
  · rename_i q0; injection q0 with q1 q2; subst q1; subst q2
    exact (cct_k30 rfl (fun _ _ => rfl))
  · rename_i q0; injection q0 with q1 q2; subst q1; subst q2
    exact cct_k31 (fun i _ => by rw [hr 36 (by decide)])
  · rename_i q0; injection q0 with q1 q2; subst q1; subst q2
    exact cct_k32 (hr 42 (by decide))
  · rename_i q0; injection q0 with q1 q2; subst q1; subst q2
    exact cct_k33 (congrFun (hr 33 (by decide)) _) rfl (by rw [hr 35 (by decide)])
  · rename_i q0; injection q0 with q1 q2; subst q1; subst q2
    exact cct_k34 (fun i _ => by rw [hr 34 (by decide)])
  · rename_i q0; injection q0 with q1 q2; subst q1; subst q2
    exact cct_k35 (congrFun (hr 38 (by decide)) _) (congrFun (hr 39 (by decide)) _) rfl rfl
  · rename_i q0; injection q0 with q1 q2; subst q1; subst q2
    exact cct_k36 (fun i _ => by rw [hr 41 (by decide)])
  · exact hr0.elim
theorem lt20 {b : Nat} (h : b < 20) : b = 0 ∨ b = 1 ∨ b = 2 ∨ b = 3 ∨ b = 4 ∨ b = 5 ∨ b = 6 ∨ b = 7 ∨ b = 8 ∨ b = 9 ∨ b = 10 ∨ b = 11 ∨ b = 12 ∨ b = 13 ∨ b = 14 ∨ b = 15 ∨ b = 16 ∨ b = 17 ∨ b = 18 ∨ b = 19 := by omega
theorem r20 {P : Nat → Prop} (h0 : P 0) (h1 : P 1) (h2 : P 2) (h3 : P 3) (h4 : P 4) (h5 : P 5) (h6 : P 6) (h8 : P 8) (h9 : P 9) (h10 : P 10) (h11 : P 11) (h12 : P 12) (h13 : P 13) (h14 : P 14) (h15 : P 15) (h16 : P 16) (h17 : P 17) (h18 : P 18) (h19 : P 19) : ∀ b, b < 20 → b ≠ 7 → P b := by intro b hb h7; rcases lt20 hb with rfl | rfl | rfl | rfl | rfl | rfl | rfl | rfl | rfl | rfl | rfl | rfl | rfl | rfl | rfl | rfl | rfl | rfl | rfl | rfl <;> first | assumption | exact absurd rfl h7
/-- what a method of the program leaves: all as it was, or a new program and no run -/
def cPo (E : zE) (A : rl → Nat) (K : Nat → Nat → Nat) (Z S Z' : zSt) (r : Int32) : Option Value → zPH → Prop := fun v h' => v = some (.int r) ∧ (Z' = Z ∧ h' = cp E A K Z S Z ∨ h' = cp E A (kz K) Z' S Z')
abbrev rm_P_mode : Room := { frames := 1, cells := 0, slots := 0, locals := 20 }
set_option maxHeartbeats 4000000 in
set_option maxRecDepth 100000 in
theorem c_P_mode (l : Launch) (E : zE) {A : rl → Nat} {K : Nat → Nat → Nat} (hA : cIj K A) (Z S : zSt) (hX : tInv Z) (m : Int32) : zM l E y_P_mode b_P_mode 3 ((some .int)) rm_P_mode [.ref (A (0, 0)), .int m] (cp E A K Z S Z) (cPo E A K Z S (tMode Z m).2 (tMode Z m).1) := by
  refine zM_w (by decide +kernel) rfl rfl (fun sz => ?_)
  obtain ⟨⟨⟨h0, b0⟩, ⟨h2, b2⟩, ⟨h4, b4⟩, ⟨h7, b7⟩, ⟨h16, b16⟩⟩, h18, h19, hp, hf0, hs, hst⟩ := id hX
  refine z_iload_n d_P_mode_0 rfl ?_
  refine z_if_lt (tgt := 9) d_P_mode_1 (by decide) (fun c1 => ?_) (fun c1 => ?_)
  · refine z_bipush (v := -2) d_P_mode_9 bp_m2 ?_
    exact z_iret rfl d_P_mode_11 (zlq rfl) (zlq rfl) (by unfold tMode; rw [if_pos c1]; exact ⟨rfl, Or.inl ⟨rfl, rfl⟩⟩)
  · refine z_iload_n d_P_mode_4 rfl ?_
    refine z_iconst d_P_mode_5 ic_1 ?_
    refine z_icmp_le (tgt := 12) d_P_mode_6 (by decide) (fun c6 => ?_) (fun c6 => ?_)
    · refine z_aload_n d_P_mode_12 rfl ?_
      refine z_get fa_P_117 d_P_mode_13 (cp_0 hA) rfl ?_
      refine z_istore_n d_P_mode_16 (zlt rfl) ?_
      refine z_aload_n d_P_mode_17 rfl ?_
      refine z_iload_n d_P_mode_18 rfl ?_
      refine z_put fp_P_117 d_P_mode_19 (cp_0 hA) (vp_nar_int _) rfl (zlt rfl) ?_
      refine z_eqh (cp_p0_11 hA) ?_
      refine z_aload_n d_P_mode_22 rfl ?_
      refine z_cVv (c_P_change l E hA _ _ _ (tMode Z m).2) cb_P_change ci_P_change ln_P_76 (cp_0 hA) rfl rfl (zlq rfl) rfl (zlq rfl) (zlq rfl) d_P_mode_23 ?_
      have hA := cIj_mono hA (fun _ r => cdm_kz r)
      refine z_iload_n d_P_mode_26 rfl ?_
      exact z_iret rfl d_P_mode_27 (zlq rfl) (zlq rfl) (by unfold tMode; rw [if_neg c1, if_pos c6]; exact ⟨rfl, Or.inr (cp_eqX (r20 rfl rfl rfl rfl rfl rfl rfl rfl rfl rfl rfl rfl rfl rfl rfl rfl rfl rfl rfl) (fun _ _ => rfl))⟩)
    · refine z_bipush (v := -2) d_P_mode_9 bp_m2 ?_
      exact z_iret rfl d_P_mode_11 (zlq rfl) (zlq rfl) (by unfold tMode; rw [if_neg c1, if_neg c6]; exact ⟨rfl, Or.inl ⟨rfl, rfl⟩⟩)
abbrev rm_P_field : Room := { frames := 1, cells := 0, slots := 0, locals := 21 }
set_option maxHeartbeats 4000000 in
set_option maxRecDepth 100000 in
theorem c_P_field (l : Launch) (E : zE) {A : rl → Nat} {K : Nat → Nat → Nat} (hA : cIj K A) (Z S : zSt) (hX : tInv Z) (c : Int32) : zM l E y_P_field b_P_field 2 ((some .int)) rm_P_field [.ref (A (0, 0)), .int c] (cp E A K Z S Z) (cPo E A K Z S (tFld Z c).2 (tFld Z c).1) := by
  refine zM_w (by decide +kernel) rfl rfl (fun sz => ?_)
  obtain ⟨⟨⟨h0, b0⟩, ⟨h2, b2⟩, ⟨h4, b4⟩, ⟨h7, b7⟩, ⟨h16, b16⟩⟩, h18, h19, hp, hf0, hs, hst⟩ := id hX
  refine z_aload_n d_P_field_0 rfl ?_
  refine z_iload_n d_P_field_1 rfl ?_
  refine z_cVi (c_P_isClass l E hA _ _ _ _) cb_P_isClass ci_P_isClass ln_P_72 (cp_0 hA) rfl rfl (zlq rfl) rfl (zlq rfl) (zlq rfl) d_P_field_2 ?_
  refine z_if_ne (tgt := 10) d_P_field_5 (by decide) (fun c5 => ?_) (fun c5 => ?_)
  · have c5n := bI_n.mp c5
    refine z_aload_n d_P_field_10 rfl ?_
    refine z_get fa_P_69 d_P_field_11 (cp_0 hA) rfl ?_
    refine z_top h2 ?_
    refine z_bipush d_P_field_14 bp_8 ?_
    refine z_icmp_ne (tgt := 22) d_P_field_16 (by decide) (fun c16 => ?_) (fun c16 => ?_)
    · have c16n := (not_congr (nI_eq (by omega) (by omega))).mp c16
      refine z_aload_n d_P_field_22 rfl ?_
      refine z_get fa_P_13 d_P_field_23 (cp_0 hA) rfl ?_
      refine z_aload_n d_P_field_26 rfl ?_
      refine z_get fa_P_69 d_P_field_27 (cp_0 hA) rfl ?_
      refine z_top h2 ?_
      refine z_iload_n d_P_field_30 rfl ?_
      refine z_iast (cn Z 2) d_P_field_31 (cp_1_1 hA) rfl (show cn Z 2 < 8 from by omega) (by decide) ?_
      refine z_eqh (cp_p1_1 hA) ?_
      refine z_aload_n d_P_field_32 rfl ?_
      refine z_cVv (c_P_change l E hA _ _ _ (tFld Z c).2) cb_P_change ci_P_change ln_P_76 (cp_0 hA) rfl rfl (zlq rfl) rfl (zlq rfl) (zlq rfl) d_P_field_33 ?_
      have hA := cIj_mono hA (fun _ r => cdm_kz r)
      refine z_aload_n d_P_field_36 rfl ?_
      refine z_dup d_P_field_37 rfl ?_
      refine z_get fa_P_69 d_P_field_38 (cp_0 hA) rfl ?_
      refine z_top (show _ = _ from h2) ?_
      refine z_dup_x1 d_P_field_41 rfl rfl ?_
      refine z_iconst d_P_field_42 ic_1 ?_
      refine z_iadd d_P_field_43 ?_
      refine z_top (nI_add (cn Z 2) (1)) ?_
      refine z_put fp_P_69 d_P_field_44 (cp_0 hA) (vp_nar_int _) rfl (zlt rfl) ?_
      refine z_eqh (cp_p0_3 hA) ?_
      exact z_iret rfl d_P_field_47 (zlq rfl) (zlq rfl) (by unfold tFld; rw [if_pos c5n, if_neg c16]; exact ⟨rfl, Or.inr (cp_eqX (r20 rfl rfl rfl rfl rfl rfl rfl rfl rfl rfl rfl rfl rfl rfl rfl rfl rfl rfl rfl) (fun _ _ => rfl))⟩)
    · have c16n := (nI_eq (by omega) (by omega)).mp c16
      refine z_bipush (v := -4) d_P_field_19 bp_m4 ?_
      exact z_iret rfl d_P_field_21 (zlq rfl) (zlq rfl) (by unfold tFld; rw [if_pos c5n, if_pos c16]; exact ⟨rfl, Or.inl ⟨rfl, rfl⟩⟩)
  · have c5n := bI_e.mp c5
    refine z_iconst (v := -1) d_P_field_8 ic_m1 ?_
    exact z_iret rfl d_P_field_9 (zlq rfl) (zlq rfl) (by unfold tFld; rw [if_neg (zbf c5n)]; exact ⟨rfl, Or.inl ⟨rfl, rfl⟩⟩)
theorem tCls_a {Z : zSt} {p : Int32} (b0 : cn Z 0 ≤ 8) (h0 : Z 0 0 = nI (cn Z 0)) (h : p = -1 ∨ tIn p (Z 0 0) = true) : tCls Z p = if nI (cn Z 0) = nI 8 then (-4, Z) else (nI (cn Z 0), tCh (va_up (va_up Z 1 (upd (Z 1) (cn Z 0) p)) 0 (fun _ => nI (cn Z 0 + 1)))) := by
  unfold tCls
  rcases h with rfl | h
  · rw [if_neg (by decide), if_pos (show (-1 : Int32) < nI (cn Z 0) from ?_)]
    exact Int32.lt_of_lt_of_le (by decide) (nI_pos' (by omega))
  · unfold tIn at h
    rw [Bool.and_eq_true, h0] at h
    have h1 : ¬ p < 0 := by simpa using h.1
    have h2 : ¬ nI (cn Z 0) ≤ p := by simpa using h.2
    rw [if_neg (fun z => h1 (Int32.lt_trans z (by decide))), if_pos (Int32.not_le.mp h2)]
theorem tCls_b {Z : zSt} {p : Int32} (h0 : Z 0 0 = nI (cn Z 0)) (h1 : p ≠ -1) (h : tIn p (Z 0 0) = false) : tCls Z p = (-1, Z) := by
  unfold tCls
  by_cases c : p < -1
  · rw [if_pos c]
  · rw [if_neg c]
    by_cases d : p < nI (cn Z 0)
    · exfalso
      unfold tIn at h
      rw [h0, Bool.and_eq_false_iff] at h
      rcases h with h | h
      · have h2 : p < 0 := by simpa using h
        have a := Int32.lt_iff_toInt_lt.mp h2
        have b : ¬ p.toInt < (-1 : Int32).toInt := fun z => c (Int32.lt_iff_toInt_lt.mpr z)
        rw [show (0 : Int32).toInt = 0 by decide +kernel] at a
        rw [show (-1 : Int32).toInt = -1 by decide +kernel] at b
        exact h1 (Int32.toInt_inj.mp (by rw [show (-1 : Int32).toInt = -1 by decide +kernel]; omega))
      · have h2 : nI (cn Z 0) ≤ p := by simpa using h
        exact Int32.not_lt.mpr h2 d
    · rw [if_neg d]
abbrev rm_P_cls : Room := { frames := 1, cells := 0, slots := 0, locals := 21 }
set_option maxHeartbeats 4000000 in
set_option maxRecDepth 100000 in
theorem c_P_cls (l : Launch) (E : zE) {A : rl → Nat} {K : Nat → Nat → Nat} (hA : cIj K A) (Z S : zSt) (hX : tInv Z) (p : Int32) : zM l E y_P_cls b_P_cls 2 ((some .int)) rm_P_cls [.ref (A (0, 0)), .int p] (cp E A K Z S Z) (cPo E A K Z S (tCls Z p).2 (tCls Z p).1) := by
  refine zM_w (by decide +kernel) rfl rfl (fun sz => ?_)
  obtain ⟨⟨⟨h0, b0⟩, ⟨h2, b2⟩, ⟨h4, b4⟩, ⟨h7, b7⟩, ⟨h16, b16⟩⟩, h18, h19, hp, hf0, hs, hst⟩ := id hX
  refine z_iload_n d_P_cls_0 rfl ?_
  refine z_iconst (v := -1) d_P_cls_1 ic_m1 ?_
  refine z_icmp_eq (tgt := 15) d_P_cls_2 (by decide) (fun c2 => ?_) (fun c2 => ?_)
  · refine z_aload_n d_P_cls_15 rfl ?_
    refine z_get fa_P_66 d_P_cls_16 (cp_0 hA) rfl ?_
    refine z_top h0 ?_
    refine z_bipush d_P_cls_19 bp_8 ?_
    refine z_icmp_ne (tgt := 27) d_P_cls_21 (by decide) (fun c21 => ?_) (fun c21 => ?_)
    · have c21n := (not_congr (nI_eq (by omega) (by omega))).mp c21
      refine z_aload_n d_P_cls_27 rfl ?_
      refine z_get fa_P_7 d_P_cls_28 (cp_0 hA) rfl ?_
      refine z_aload_n d_P_cls_31 rfl ?_
      refine z_get fa_P_66 d_P_cls_32 (cp_0 hA) rfl ?_
      refine z_top h0 ?_
      refine z_iload_n d_P_cls_35 rfl ?_
      refine z_iast (cn Z 0) d_P_cls_36 (cp_1_0 hA) rfl (show cn Z 0 < 8 from by omega) (by decide) ?_
      refine z_eqh (cp_p1_0 hA) ?_
      refine z_aload_n d_P_cls_37 rfl ?_
      refine z_cVv (c_P_change l E hA _ _ _ (tCls Z p).2) cb_P_change ci_P_change ln_P_76 (cp_0 hA) rfl rfl (zlq rfl) rfl (zlq rfl) (zlq rfl) d_P_cls_38 ?_
      have hA := cIj_mono hA (fun _ r => cdm_kz r)
      refine z_aload_n d_P_cls_41 rfl ?_
      refine z_dup d_P_cls_42 rfl ?_
      refine z_get fa_P_66 d_P_cls_43 (cp_0 hA) rfl ?_
      refine z_top (show _ = _ from h0) ?_
      refine z_dup_x1 d_P_cls_46 rfl rfl ?_
      refine z_iconst d_P_cls_47 ic_1 ?_
      refine z_iadd d_P_cls_48 ?_
      refine z_top (nI_add (cn Z 0) (1)) ?_
      refine z_put fp_P_66 d_P_cls_49 (cp_0 hA) (vp_nar_int _) rfl (zlt rfl) ?_
      refine z_eqh (cp_p0_1 hA) ?_
      exact z_iret rfl d_P_cls_52 (zlq rfl) (zlq rfl) (by rw [tCls_a b0 h0 (Or.inl c2), if_neg c21]; exact ⟨rfl, Or.inr (cp_eqX (r20 rfl rfl rfl rfl rfl rfl rfl rfl rfl rfl rfl rfl rfl rfl rfl rfl rfl rfl rfl) (fun _ _ => rfl))⟩)
    · have c21n := (nI_eq (by omega) (by omega)).mp c21
      refine z_bipush (v := -4) d_P_cls_24 bp_m4 ?_
      exact z_iret rfl d_P_cls_26 (zlq rfl) (zlq rfl) (by rw [tCls_a b0 h0 (Or.inl c2), if_pos c21]; exact ⟨rfl, Or.inl ⟨rfl, rfl⟩⟩)
  · refine z_aload_n d_P_cls_5 rfl ?_
    refine z_iload_n d_P_cls_6 rfl ?_
    refine z_cVi (c_P_isClass l E hA _ _ _ _) cb_P_isClass ci_P_isClass ln_P_72 (cp_0 hA) rfl rfl (zlq rfl) rfl (zlq rfl) (zlq rfl) d_P_cls_7 ?_
    refine z_if_ne (tgt := 15) d_P_cls_10 (by decide) (fun c10 => ?_) (fun c10 => ?_)
    · have c10n := bI_n.mp c10
      refine z_aload_n d_P_cls_15 rfl ?_
      refine z_get fa_P_66 d_P_cls_16 (cp_0 hA) rfl ?_
      refine z_top h0 ?_
      refine z_bipush d_P_cls_19 bp_8 ?_
      refine z_icmp_ne (tgt := 27) d_P_cls_21 (by decide) (fun c21 => ?_) (fun c21 => ?_)
      · have c21n := (not_congr (nI_eq (by omega) (by omega))).mp c21
        refine z_aload_n d_P_cls_27 rfl ?_
        refine z_get fa_P_7 d_P_cls_28 (cp_0 hA) rfl ?_
        refine z_aload_n d_P_cls_31 rfl ?_
        refine z_get fa_P_66 d_P_cls_32 (cp_0 hA) rfl ?_
        refine z_top h0 ?_
        refine z_iload_n d_P_cls_35 rfl ?_
        refine z_iast (cn Z 0) d_P_cls_36 (cp_1_0 hA) rfl (show cn Z 0 < 8 from by omega) (by decide) ?_
        refine z_eqh (cp_p1_0 hA) ?_
        refine z_aload_n d_P_cls_37 rfl ?_
        refine z_cVv (c_P_change l E hA _ _ _ (tCls Z p).2) cb_P_change ci_P_change ln_P_76 (cp_0 hA) rfl rfl (zlq rfl) rfl (zlq rfl) (zlq rfl) d_P_cls_38 ?_
        have hA := cIj_mono hA (fun _ r => cdm_kz r)
        refine z_aload_n d_P_cls_41 rfl ?_
        refine z_dup d_P_cls_42 rfl ?_
        refine z_get fa_P_66 d_P_cls_43 (cp_0 hA) rfl ?_
        refine z_top (show _ = _ from h0) ?_
        refine z_dup_x1 d_P_cls_46 rfl rfl ?_
        refine z_iconst d_P_cls_47 ic_1 ?_
        refine z_iadd d_P_cls_48 ?_
        refine z_top (nI_add (cn Z 0) (1)) ?_
        refine z_put fp_P_66 d_P_cls_49 (cp_0 hA) (vp_nar_int _) rfl (zlt rfl) ?_
        refine z_eqh (cp_p0_1 hA) ?_
        exact z_iret rfl d_P_cls_52 (zlq rfl) (zlq rfl) (by rw [tCls_a b0 h0 (Or.inr c10n), if_neg c21]; exact ⟨rfl, Or.inr (cp_eqX (r20 rfl rfl rfl rfl rfl rfl rfl rfl rfl rfl rfl rfl rfl rfl rfl rfl rfl rfl rfl) (fun _ _ => rfl))⟩)
      · have c21n := (nI_eq (by omega) (by omega)).mp c21
        refine z_bipush (v := -4) d_P_cls_24 bp_m4 ?_
        exact z_iret rfl d_P_cls_26 (zlq rfl) (zlq rfl) (by rw [tCls_a b0 h0 (Or.inr c10n), if_pos c21]; exact ⟨rfl, Or.inl ⟨rfl, rfl⟩⟩)
    · have c10n := bI_e.mp c10
      refine z_iconst (v := -1) d_P_cls_13 ic_m1 ?_
      exact z_iret rfl d_P_cls_14 (zlq rfl) (zlq rfl) (by rw [tCls_b h0 c2 c10n]; exact ⟨rfl, Or.inl ⟨rfl, rfl⟩⟩)
