/-! the component: lists and cells over the picture; the program's readers -/
theorem cp_1_0 {E : zE} {A : rl → Nat} {K : Nat → Nat → Nat} {X S R : zSt} (hA : cIj K A) : cp E A K X S R (A (1, 0)) = some (zeI E 8 (X 1)) := cp_1 hA (j := 0) (by decide)
theorem cp_1_1 {E : zE} {A : rl → Nat} {K : Nat → Nat → Nat} {X S R : zSt} (hA : cIj K A) : cp E A K X S R (A (1, 1)) = some (zeI E 8 (X 3)) := cp_1 hA (j := 1) (by decide)
theorem cp_1_2 {E : zE} {A : rl → Nat} {K : Nat → Nat → Nat} {X S R : zSt} (hA : cIj K A) : cp E A K X S R (A (1, 2)) = some (zeI E 10 (X 5)) := cp_1 hA (j := 2) (by decide)
theorem cp_1_3 {E : zE} {A : rl → Nat} {K : Nat → Nat → Nat} {X S R : zSt} (hA : cIj K A) : cp E A K X S R (A (1, 3)) = some (zeI E 10 (X 6)) := cp_1 hA (j := 3) (by decide)
theorem cp_1_4 {E : zE} {A : rl → Nat} {K : Nat → Nat → Nat} {X S R : zSt} (hA : cIj K A) : cp E A K X S R (A (1, 4)) = some (zeI E 20 (X 17)) := cp_1 hA (j := 4) (by decide)
theorem c_get11_0 (l : Launch) (E : zE) {A : rl → Nat} {K : Nat → Nat → Nat} (hA : cIj K A) (X S R : zSt) (i : Nat) (hi : i < 210) : zM l E y_AL_get b_AL_get 2 (some (.object "java/lang/Object")) rm_AL_get [.ref (A (11, 0)), .int (nI i)] (cp E A K X S R) (zPr (some (A (19, i))) (cp E A K X S R)) := by
  have h := c_AL_get l E _ (A (11, 0)) (A (12, 0)) 210 244 _ _ (cp_11 (E := E) (X := X) (S := S) (R := R) hA (j := 0) (by decide)) (cp_12 hA (j := 0) (by decide)) (by decide) (by decide) i hi
  rw [show (if i < csz 0 then some (A (crl 0, i)) else none) = some (A (19, i)) from if_pos hi] at h
  exact h
theorem c_size11_0 (l : Launch) (E : zE) {A : rl → Nat} {K : Nat → Nat → Nat} (hA : cIj K A) (X S R : zSt) : zM l E y_AL_size b_AL_size 1 (some .int) rm_AL_size [.ref (A (11, 0))] (cp E A K X S R) (zPi (nI 210) (cp E A K X S R)) := c_AL_size l E _ _ _ _ _ (cp_11 hA (j := 0) (by decide))
theorem c_get11_1 (l : Launch) (E : zE) {A : rl → Nat} {K : Nat → Nat → Nat} (hA : cIj K A) (X S R : zSt) (i : Nat) (hi : i < 160) : zM l E y_AL_get b_AL_get 2 (some (.object "java/lang/Object")) rm_AL_get [.ref (A (11, 1)), .int (nI i)] (cp E A K X S R) (zPr (some (A (23, i))) (cp E A K X S R)) := by
  have h := c_AL_get l E _ (A (11, 1)) (A (12, 1)) 160 163 _ _ (cp_11 (E := E) (X := X) (S := S) (R := R) hA (j := 1) (by decide)) (cp_12 hA (j := 1) (by decide)) (by decide) (by decide) i hi
  rw [show (if i < csz 1 then some (A (crl 1, i)) else none) = some (A (23, i)) from if_pos hi] at h
  exact h
theorem c_size11_1 (l : Launch) (E : zE) {A : rl → Nat} {K : Nat → Nat → Nat} (hA : cIj K A) (X S R : zSt) : zM l E y_AL_size b_AL_size 1 (some .int) rm_AL_size [.ref (A (11, 1))] (cp E A K X S R) (zPi (nI 160) (cp E A K X S R)) := c_AL_size l E _ _ _ _ _ (cp_11 hA (j := 1) (by decide))
theorem c_get11_2 (l : Launch) (E : zE) {A : rl → Nat} {K : Nat → Nat → Nat} (hA : cIj K A) (X S R : zSt) (i : Nat) (hi : i < 20) : zM l E y_AL_get b_AL_get 2 (some (.object "java/lang/Object")) rm_AL_get [.ref (A (11, 2)), .int (nI i)] (cp E A K X S R) (zPr (some (A (24, i))) (cp E A K X S R)) := by
  have h := c_AL_get l E _ (A (11, 2)) (A (12, 2)) 20 22 _ _ (cp_11 (E := E) (X := X) (S := S) (R := R) hA (j := 2) (by decide)) (cp_12 hA (j := 2) (by decide)) (by decide) (by decide) i hi
  rw [show (if i < csz 2 then some (A (crl 2, i)) else none) = some (A (24, i)) from if_pos hi] at h
  exact h
theorem c_size11_2 (l : Launch) (E : zE) {A : rl → Nat} {K : Nat → Nat → Nat} (hA : cIj K A) (X S R : zSt) : zM l E y_AL_size b_AL_size 1 (some .int) rm_AL_size [.ref (A (11, 2))] (cp E A K X S R) (zPi (nI 20) (cp E A K X S R)) := c_AL_size l E _ _ _ _ _ (cp_11 hA (j := 2) (by decide))
theorem c_get11_3 (l : Launch) (E : zE) {A : rl → Nat} {K : Nat → Nat → Nat} (hA : cIj K A) (X S R : zSt) (i : Nat) (hi : i < 4) : zM l E y_AL_get b_AL_get 2 (some (.object "java/lang/Object")) rm_AL_get [.ref (A (11, 3)), .int (nI i)] (cp E A K X S R) (zPr (some (A (25, i))) (cp E A K X S R)) := by
  have h := c_AL_get l E _ (A (11, 3)) (A (12, 3)) 4 10 _ _ (cp_11 (E := E) (X := X) (S := S) (R := R) hA (j := 3) (by decide)) (cp_12 hA (j := 3) (by decide)) (by decide) (by decide) i hi
  rw [show (if i < csz 3 then some (A (crl 3, i)) else none) = some (A (25, i)) from if_pos hi] at h
  exact h
theorem c_size11_3 (l : Launch) (E : zE) {A : rl → Nat} {K : Nat → Nat → Nat} (hA : cIj K A) (X S R : zSt) : zM l E y_AL_size b_AL_size 1 (some .int) rm_AL_size [.ref (A (11, 3))] (cp E A K X S R) (zPi (nI 4) (cp E A K X S R)) := c_AL_size l E _ _ _ _ _ (cp_11 hA (j := 3) (by decide))
theorem c_name (l : Launch) (E : zE) {A : rl → Nat} {K : Nat → Nat → Nat} (hA : cIj K A) (X S R : zSt) (b n : Nat) (hb : b < 210) (hn : n < 6) : zM l E y_Bo_name b_Bo_name 2 (some (.object "PointsToRounds$Cell")) rm_Bo_name [.ref (A (19, b)), .int (nI n)] (cp E A K X S R) (zPr (some (A (22, 6 * b + n))) (cp E A K X S R)) :=
  c_Bo_name l E _ _ (A (20, b)) (A (21, b)) 6 10 _ n _ _ _ _ _ _ _ _ (cp_19 hA hb) (cp_20 hA hb) (cp_21 hA hb) (by decide) (by decide) hn (if_pos hn) (cp_22 hA (by omega))
/-- what an add leaves -/
def cAd (S : zSt) (a j : Nat) (s : Int32) : zSt := cu S (a + 40) j (S (a + 40) j ||| (s &&& (S a j ^^^ -1)))
theorem c_add22 (l : Launch) (E : zE) {A : rl → Nat} {K : Nat → Nat → Nat} (hA : cIj K A) (X S R : zSt) (j : Nat) (hj : j < 1260) (s : Int32) : zM l E y_Ce_add b_Ce_add 2 none rm_Ce_add [.ref (A (22, j)), .int s] (cp E A K X S R) (zPv (cp E A K X (cAd S 20 j s) R)) := by
  have h := c_Ce_add l E _ (A (22, j)) _ _ _ (cp_22 (E := E) (X := X) (S := S) (R := R) hA hj) s
  rw [cp_s22 hA hj, cSet_cu] at h
  exact h
theorem c_turn22 (l : Launch) (E : zE) {A : rl → Nat} {K : Nat → Nat → Nat} (hA : cIj K A) (X S R : zSt) (j : Nat) (hj : j < 1260) : zM l E y_Ce_turn b_Ce_turn 1 (some .boolean) rm_Ce_turn [.ref (A (22, j))] (cp E A K X S R) (zPi (bI (decide (S 60 j ≠ 0))) (cp E A K X (cSet S 20 j (S 20 j ||| S 60 j) (S 60 j) (nI 0)) R)) := by
  have h := c_Ce_turn l E _ (A (22, j)) _ _ _ (cp_22 (E := E) (X := X) (S := S) (R := R) hA hj)
  rw [cp_s22 hA hj] at h
  exact h
theorem c_clr22 (l : Launch) (E : zE) {A : rl → Nat} {K : Nat → Nat → Nat} (hA : cIj K A) (X S R : zSt) (j : Nat) (hj : j < 1260) : zM l E y_Ce_clear b_Ce_clear 1 none rm_Ce_clear [.ref (A (22, j))] (cp E A K X S R) (zPv (cp E A K X (cSet S 20 j (nI 0) (nI 0) (nI 0)) R)) := by
  have h := c_Ce_clear l E _ (A (22, j)) _ _ _ (cp_22 (E := E) (X := X) (S := S) (R := R) hA hj)
  rw [cp_s22 hA hj] at h
  exact h
theorem c_add23 (l : Launch) (E : zE) {A : rl → Nat} {K : Nat → Nat → Nat} (hA : cIj K A) (X S R : zSt) (j : Nat) (hj : j < 160) (s : Int32) : zM l E y_Ce_add b_Ce_add 2 none rm_Ce_add [.ref (A (23, j)), .int s] (cp E A K X S R) (zPv (cp E A K X (cAd S 22 j s) R)) := by
  have h := c_Ce_add l E _ (A (23, j)) _ _ _ (cp_23 (E := E) (X := X) (S := S) (R := R) hA hj) s
  rw [cp_s23 hA hj, cSet_cu] at h
  exact h
theorem c_turn23 (l : Launch) (E : zE) {A : rl → Nat} {K : Nat → Nat → Nat} (hA : cIj K A) (X S R : zSt) (j : Nat) (hj : j < 160) : zM l E y_Ce_turn b_Ce_turn 1 (some .boolean) rm_Ce_turn [.ref (A (23, j))] (cp E A K X S R) (zPi (bI (decide (S 62 j ≠ 0))) (cp E A K X (cSet S 22 j (S 22 j ||| S 62 j) (S 62 j) (nI 0)) R)) := by
  have h := c_Ce_turn l E _ (A (23, j)) _ _ _ (cp_23 (E := E) (X := X) (S := S) (R := R) hA hj)
  rw [cp_s23 hA hj] at h
  exact h
theorem c_clr23 (l : Launch) (E : zE) {A : rl → Nat} {K : Nat → Nat → Nat} (hA : cIj K A) (X S R : zSt) (j : Nat) (hj : j < 160) : zM l E y_Ce_clear b_Ce_clear 1 none rm_Ce_clear [.ref (A (23, j))] (cp E A K X S R) (zPv (cp E A K X (cSet S 22 j (nI 0) (nI 0) (nI 0)) R)) := by
  have h := c_Ce_clear l E _ (A (23, j)) _ _ _ (cp_23 (E := E) (X := X) (S := S) (R := R) hA hj)
  rw [cp_s23 hA hj] at h
  exact h
theorem c_add24 (l : Launch) (E : zE) {A : rl → Nat} {K : Nat → Nat → Nat} (hA : cIj K A) (X S R : zSt) (j : Nat) (hj : j < 20) (s : Int32) : zM l E y_Ce_add b_Ce_add 2 none rm_Ce_add [.ref (A (24, j)), .int s] (cp E A K X S R) (zPv (cp E A K X (cAd S 24 j s) R)) := by
  have h := c_Ce_add l E _ (A (24, j)) _ _ _ (cp_24 (E := E) (X := X) (S := S) (R := R) hA hj) s
  rw [cp_s24 hA hj, cSet_cu] at h
  exact h
theorem c_turn24 (l : Launch) (E : zE) {A : rl → Nat} {K : Nat → Nat → Nat} (hA : cIj K A) (X S R : zSt) (j : Nat) (hj : j < 20) : zM l E y_Ce_turn b_Ce_turn 1 (some .boolean) rm_Ce_turn [.ref (A (24, j))] (cp E A K X S R) (zPi (bI (decide (S 64 j ≠ 0))) (cp E A K X (cSet S 24 j (S 24 j ||| S 64 j) (S 64 j) (nI 0)) R)) := by
  have h := c_Ce_turn l E _ (A (24, j)) _ _ _ (cp_24 (E := E) (X := X) (S := S) (R := R) hA hj)
  rw [cp_s24 hA hj] at h
  exact h
theorem c_clr24 (l : Launch) (E : zE) {A : rl → Nat} {K : Nat → Nat → Nat} (hA : cIj K A) (X S R : zSt) (j : Nat) (hj : j < 20) : zM l E y_Ce_clear b_Ce_clear 1 none rm_Ce_clear [.ref (A (24, j))] (cp E A K X S R) (zPv (cp E A K X (cSet S 24 j (nI 0) (nI 0) (nI 0)) R)) := by
  have h := c_Ce_clear l E _ (A (24, j)) _ _ _ (cp_24 (E := E) (X := X) (S := S) (R := R) hA hj)
  rw [cp_s24 hA hj] at h
  exact h
theorem c_add25 (l : Launch) (E : zE) {A : rl → Nat} {K : Nat → Nat → Nat} (hA : cIj K A) (X S R : zSt) (j : Nat) (hj : j < 4) (s : Int32) : zM l E y_Ce_add b_Ce_add 2 none rm_Ce_add [.ref (A (25, j)), .int s] (cp E A K X S R) (zPv (cp E A K X (cAd S 26 j s) R)) := by
  have h := c_Ce_add l E _ (A (25, j)) _ _ _ (cp_25 (E := E) (X := X) (S := S) (R := R) hA hj) s
  rw [cp_s25 hA hj, cSet_cu] at h
  exact h
theorem c_turn25 (l : Launch) (E : zE) {A : rl → Nat} {K : Nat → Nat → Nat} (hA : cIj K A) (X S R : zSt) (j : Nat) (hj : j < 4) : zM l E y_Ce_turn b_Ce_turn 1 (some .boolean) rm_Ce_turn [.ref (A (25, j))] (cp E A K X S R) (zPi (bI (decide (S 66 j ≠ 0))) (cp E A K X (cSet S 26 j (S 26 j ||| S 66 j) (S 66 j) (nI 0)) R)) := by
  have h := c_Ce_turn l E _ (A (25, j)) _ _ _ (cp_25 (E := E) (X := X) (S := S) (R := R) hA hj)
  rw [cp_s25 hA hj] at h
  exact h
theorem c_clr25 (l : Launch) (E : zE) {A : rl → Nat} {K : Nat → Nat → Nat} (hA : cIj K A) (X S R : zSt) (j : Nat) (hj : j < 4) : zM l E y_Ce_clear b_Ce_clear 1 none rm_Ce_clear [.ref (A (25, j))] (cp E A K X S R) (zPv (cp E A K X (cSet S 26 j (nI 0) (nI 0) (nI 0)) R)) := by
  have h := c_Ce_clear l E _ (A (25, j)) _ _ _ (cp_25 (E := E) (X := X) (S := S) (R := R) hA hj)
  rw [cp_s25 hA hj] at h
  exact h
abbrev cTu (S : zSt) (a j : Nat) : zSt := cSet S a j (S a j ||| S (a + 40) j) (S (a + 40) j) (nI 0)
abbrev rm_P_isClass : Room := { frames := 0, cells := 0, slots := 0, locals := 0 }
set_option maxHeartbeats 4000000 in
set_option maxRecDepth 100000 in
theorem c_P_isClass (l : Launch) (E : zE) {A : rl → Nat} {K : Nat → Nat → Nat} (hA : cIj K A) (X S R : zSt) (c : Int32) : zM l E y_P_isClass b_P_isClass 2 ((some .boolean)) rm_P_isClass [.ref (A (0, 0)), .int c] (cp E A K X S R) (zPi (bI (tIn c (X 0 0))) (cp E A K X S R)) := by
  refine zM_w (by decide +kernel) rfl rfl (fun sz => ?_)
  refine z_iload_n d_P_isClass_0 rfl ?_
  refine z_if_lt (tgt := 16) d_P_isClass_1 (by decide) (fun c1 => ?_) (fun c1 => ?_)
  · refine z_iconst d_P_isClass_16 ic_0 ?_
    exact z_zret rfl nz_0 d_P_isClass_17 (zlq rfl) (zlq rfl) (⟨by simp [tIn, bI, nI_0, nI_one, *], rfl⟩)
  · refine z_iload_n d_P_isClass_4 rfl ?_
    refine z_aload_n d_P_isClass_5 rfl ?_
    refine z_get fa_P_66 d_P_isClass_6 (cp_0 hA) rfl ?_
    refine z_icmp_ge (tgt := 16) d_P_isClass_9 (by decide) (fun c9 => ?_) (fun c9 => ?_)
    · refine z_iconst d_P_isClass_16 ic_0 ?_
      exact z_zret rfl nz_0 d_P_isClass_17 (zlq rfl) (zlq rfl) (⟨by simp [tIn, bI, nI_0, nI_one, *], rfl⟩)
    · refine z_iconst d_P_isClass_12 ic_1 ?_
      refine z_goto (tgt := 17) d_P_isClass_13 (by decide) ?_
      exact z_zret rfl nz_1 d_P_isClass_17 (zlq rfl) (zlq rfl) (⟨by simp [tIn, bI, nI_0, nI_one, *], rfl⟩)
abbrev rm_P_isField : Room := { frames := 0, cells := 0, slots := 0, locals := 0 }
set_option maxHeartbeats 4000000 in
set_option maxRecDepth 100000 in
theorem c_P_isField (l : Launch) (E : zE) {A : rl → Nat} {K : Nat → Nat → Nat} (hA : cIj K A) (X S R : zSt) (c : Int32) : zM l E y_P_isField b_P_isField 2 ((some .boolean)) rm_P_isField [.ref (A (0, 0)), .int c] (cp E A K X S R) (zPi (bI (tIn c (X 2 0))) (cp E A K X S R)) := by
  refine zM_w (by decide +kernel) rfl rfl (fun sz => ?_)
  refine z_iload_n d_P_isField_0 rfl ?_
  refine z_if_lt (tgt := 16) d_P_isField_1 (by decide) (fun c1 => ?_) (fun c1 => ?_)
  · refine z_iconst d_P_isField_16 ic_0 ?_
    exact z_zret rfl nz_0 d_P_isField_17 (zlq rfl) (zlq rfl) (⟨by simp [tIn, bI, nI_0, nI_one, *], rfl⟩)
  · refine z_iload_n d_P_isField_4 rfl ?_
    refine z_aload_n d_P_isField_5 rfl ?_
    refine z_get fa_P_69 d_P_isField_6 (cp_0 hA) rfl ?_
    refine z_icmp_ge (tgt := 16) d_P_isField_9 (by decide) (fun c9 => ?_) (fun c9 => ?_)
    · refine z_iconst d_P_isField_16 ic_0 ?_
      exact z_zret rfl nz_0 d_P_isField_17 (zlq rfl) (zlq rfl) (⟨by simp [tIn, bI, nI_0, nI_one, *], rfl⟩)
    · refine z_iconst d_P_isField_12 ic_1 ?_
      refine z_goto (tgt := 17) d_P_isField_13 (by decide) ?_
      exact z_zret rfl nz_1 d_P_isField_17 (zlq rfl) (zlq rfl) (⟨by simp [tIn, bI, nI_0, nI_one, *], rfl⟩)
abbrev rm_P_isMethod : Room := { frames := 0, cells := 0, slots := 0, locals := 0 }
set_option maxHeartbeats 4000000 in
set_option maxRecDepth 100000 in
theorem c_P_isMethod (l : Launch) (E : zE) {A : rl → Nat} {K : Nat → Nat → Nat} (hA : cIj K A) (X S R : zSt) (c : Int32) : zM l E y_P_isMethod b_P_isMethod 2 ((some .boolean)) rm_P_isMethod [.ref (A (0, 0)), .int c] (cp E A K X S R) (zPi (bI (tIn c (X 4 0))) (cp E A K X S R)) := by
  refine zM_w (by decide +kernel) rfl rfl (fun sz => ?_)
  refine z_iload_n d_P_isMethod_0 rfl ?_
  refine z_if_lt (tgt := 16) d_P_isMethod_1 (by decide) (fun c1 => ?_) (fun c1 => ?_)
  · refine z_iconst d_P_isMethod_16 ic_0 ?_
    exact z_zret rfl nz_0 d_P_isMethod_17 (zlq rfl) (zlq rfl) (⟨by simp [tIn, bI, nI_0, nI_one, *], rfl⟩)
  · refine z_iload_n d_P_isMethod_4 rfl ?_
    refine z_aload_n d_P_isMethod_5 rfl ?_
    refine z_get fa_P_44 d_P_isMethod_6 (cp_0 hA) rfl ?_
    refine z_icmp_ge (tgt := 16) d_P_isMethod_9 (by decide) (fun c9 => ?_) (fun c9 => ?_)
    · refine z_iconst d_P_isMethod_16 ic_0 ?_
      exact z_zret rfl nz_0 d_P_isMethod_17 (zlq rfl) (zlq rfl) (⟨by simp [tIn, bI, nI_0, nI_one, *], rfl⟩)
    · refine z_iconst d_P_isMethod_12 ic_1 ?_
      refine z_goto (tgt := 17) d_P_isMethod_13 (by decide) ?_
      exact z_zret rfl nz_1 d_P_isMethod_17 (zlq rfl) (zlq rfl) (⟨by simp [tIn, bI, nI_0, nI_one, *], rfl⟩)
abbrev rm_P_isSite : Room := { frames := 0, cells := 0, slots := 0, locals := 0 }
set_option maxHeartbeats 4000000 in
set_option maxRecDepth 100000 in
theorem c_P_isSite (l : Launch) (E : zE) {A : rl → Nat} {K : Nat → Nat → Nat} (hA : cIj K A) (X S R : zSt) (c : Int32) : zM l E y_P_isSite b_P_isSite 2 ((some .boolean)) rm_P_isSite [.ref (A (0, 0)), .int c] (cp E A K X S R) (zPi (bI (tIn c (X 16 0))) (cp E A K X S R)) := by
  refine zM_w (by decide +kernel) rfl rfl (fun sz => ?_)
  refine z_iload_n d_P_isSite_0 rfl ?_
  refine z_if_lt (tgt := 16) d_P_isSite_1 (by decide) (fun c1 => ?_) (fun c1 => ?_)
  · refine z_iconst d_P_isSite_16 ic_0 ?_
    exact z_zret rfl nz_0 d_P_isSite_17 (zlq rfl) (zlq rfl) (⟨by simp [tIn, bI, nI_0, nI_one, *], rfl⟩)
  · refine z_iload_n d_P_isSite_4 rfl ?_
    refine z_aload_n d_P_isSite_5 rfl ?_
    refine z_get fa_P_52 d_P_isSite_6 (cp_0 hA) rfl ?_
    refine z_icmp_ge (tgt := 16) d_P_isSite_9 (by decide) (fun c9 => ?_) (fun c9 => ?_)
    · refine z_iconst d_P_isSite_16 ic_0 ?_
      exact z_zret rfl nz_0 d_P_isSite_17 (zlq rfl) (zlq rfl) (⟨by simp [tIn, bI, nI_0, nI_one, *], rfl⟩)
    · refine z_iconst d_P_isSite_12 ic_1 ?_
      refine z_goto (tgt := 17) d_P_isSite_13 (by decide) ?_
      exact z_zret rfl nz_1 d_P_isSite_17 (zlq rfl) (zlq rfl) (⟨by simp [tIn, bI, nI_0, nI_one, *], rfl⟩)
abbrev rm_P_isName : Room := { frames := 0, cells := 0, slots := 0, locals := 0 }
set_option maxHeartbeats 4000000 in
set_option maxRecDepth 100000 in
theorem c_P_isName (l : Launch) (E : zE) (h : zPH) (c : Int32) : zM l E y_P_isName b_P_isName 1 ((some .boolean)) rm_P_isName [.int c] (h) (zPi (bI (tIn c (nI 6))) h) := by
  refine zM_w (by decide +kernel) rfl rfl (fun sz => ?_)
  refine z_iload_n d_P_isName_0 rfl ?_
  refine z_if_lt (tgt := 14) d_P_isName_1 (by decide) (fun c1 => ?_) (fun c1 => ?_)
  · refine z_iconst d_P_isName_14 ic_0 ?_
    exact z_zret rfl nz_0 d_P_isName_15 (zlq rfl) (zlq rfl) (⟨by simp [tIn, bI, nI_0, nI_one, *], rfl⟩)
  · refine z_iload_n d_P_isName_4 rfl ?_
    refine z_bipush d_P_isName_5 bp_6 ?_
    refine z_icmp_ge (tgt := 14) d_P_isName_7 (by decide) (fun c7 => ?_) (fun c7 => ?_)
    · refine z_iconst d_P_isName_14 ic_0 ?_
      exact z_zret rfl nz_0 d_P_isName_15 (zlq rfl) (zlq rfl) (⟨by simp [tIn, bI, nI_0, nI_one, *], rfl⟩)
    · refine z_iconst d_P_isName_10 ic_1 ?_
      refine z_goto (tgt := 15) d_P_isName_11 (by decide) ?_
      exact z_zret rfl nz_1 d_P_isName_15 (zlq rfl) (zlq rfl) (⟨by simp [tIn, bI, nI_0, nI_one, *], rfl⟩)
abbrev rm_P_isStatic : Room := { frames := 0, cells := 0, slots := 0, locals := 0 }
set_option maxHeartbeats 4000000 in
set_option maxRecDepth 100000 in
theorem c_P_isStatic (l : Launch) (E : zE) (h : zPH) (c : Int32) : zM l E y_P_isStatic b_P_isStatic 1 ((some .boolean)) rm_P_isStatic [.int c] (h) (zPi (bI (tIn c (nI 4))) h) := by
  refine zM_w (by decide +kernel) rfl rfl (fun sz => ?_)
  refine z_iload_n d_P_isStatic_0 rfl ?_
  refine z_if_lt (tgt := 13) d_P_isStatic_1 (by decide) (fun c1 => ?_) (fun c1 => ?_)
  · refine z_iconst d_P_isStatic_13 ic_0 ?_
    exact z_zret rfl nz_0 d_P_isStatic_14 (zlq rfl) (zlq rfl) (⟨by simp [tIn, bI, nI_0, nI_one, *], rfl⟩)
  · refine z_iload_n d_P_isStatic_4 rfl ?_
    refine z_iconst d_P_isStatic_5 ic_4 ?_
    refine z_icmp_ge (tgt := 13) d_P_isStatic_6 (by decide) (fun c6 => ?_) (fun c6 => ?_)
    · refine z_iconst d_P_isStatic_13 ic_0 ?_
      exact z_zret rfl nz_0 d_P_isStatic_14 (zlq rfl) (zlq rfl) (⟨by simp [tIn, bI, nI_0, nI_one, *], rfl⟩)
    · refine z_iconst d_P_isStatic_9 ic_1 ?_
      refine z_goto (tgt := 14) d_P_isStatic_10 (by decide) ?_
      exact z_zret rfl nz_1 d_P_isStatic_14 (zlq rfl) (zlq rfl) (⟨by simp [tIn, bI, nI_0, nI_one, *], rfl⟩)
abbrev rm_P_isUnder : Room := { frames := 0, cells := 0, slots := 0, locals := 0 }
set_option maxHeartbeats 4000000 in
set_option maxRecDepth 100000 in
theorem c_P_isUnder (l : Launch) (E : zE) {A : rl → Nat} {K : Nat → Nat → Nat} (hA : cIj K A) (X S R : zSt) (hX : tInv X) (c a : Int32) (hc : c = -1 ∨ ∃ j, j < cn X 0 ∧ c = nI j) : zM l E y_P_isUnder b_P_isUnder 4 ((some .boolean)) rm_P_isUnder [.ref (A (0, 0)), .int c, .int a] (cp E A K X S R) (zPi (bI (und X 9 c a)) (cp E A K X S R)) := by
  refine zM_w (by decide +kernel) rfl rfl (fun sz => ?_)
  obtain ⟨⟨⟨h0, b0⟩, ⟨h2, b2⟩, ⟨h4, b4⟩, ⟨h7, b7⟩, ⟨h16, b16⟩⟩, h18, h19, hp, hf0, hs, hst⟩ := id hX
  have lp : ∀ (f : Nat) (x : Int32), (x = -1 ∨ ∃ j, j < f ∧ j < cn X 0 ∧ x = nI j) → und X f x a = und X 9 c a → zG (zcx l E b_P_isUnder "PointsToRounds" 4 ((some .boolean)) false rm_P_isUnder (cp E A K X S R) sz (zPi (bI (und X 9 c a)) (cp E A K X S R))) 0 0 2 [some (.ref (A (0, 0))), some (.int c), some (.int a), some (.int (x))] [] (cp E A K X S R) := by
    intro f
    induction f with
    | zero =>
      intro x hx hv
      rcases hx with rfl | ⟨j, hj, -⟩
      · refine z_iload_n d_P_isUnder_2 rfl ?_
        refine z_if_lt (tgt := 23) d_P_isUnder_3 (by decide) (fun _ => ?_) (fun q => absurd zneg q)
        refine z_iconst d_P_isUnder_23 ic_0 ?_
        exact z_zret rfl nz_0 d_P_isUnder_24 (zlq rfl) (zlq rfl) (⟨by rw [← hv]; rfl, rfl⟩)
      · omega
    | succ f ih =>
      intro x hx hv
      rcases hx with rfl | ⟨j, hj, hj2, rfl⟩
      · refine z_iload_n d_P_isUnder_2 rfl ?_
        refine z_if_lt (tgt := 23) d_P_isUnder_3 (by decide) (fun _ => ?_) (fun q => absurd zneg q)
        refine z_iconst d_P_isUnder_23 ic_0 ?_
        exact z_zret rfl nz_0 d_P_isUnder_24 (zlq rfl) (zlq rfl) (⟨by rw [← hv]; unfold und; rw [if_pos zneg]; rfl, rfl⟩)
      · refine z_iload_n d_P_isUnder_2 rfl ?_
        refine z_if_lt (tgt := 23) d_P_isUnder_3 (by decide) (fun q => absurd q (nI_pos (by omega))) (fun _ => ?_)
        refine z_iload_n d_P_isUnder_6 rfl ?_
        refine z_iload_n d_P_isUnder_7 rfl ?_
        refine z_icmp_ne (tgt := 13) d_P_isUnder_8 (by decide) (fun c8 => ?_) (fun c8 => ?_)
        · refine z_aload_n d_P_isUnder_13 rfl ?_
          refine z_get fa_P_7 d_P_isUnder_14 (cp_0 hA) rfl ?_
          refine z_iload_n d_P_isUnder_17 rfl ?_
          refine z_iald (j) d_P_isUnder_18 (cp_1_0 hA) rfl (show j < 8 from by omega) (by decide) ?_
          refine z_istore_n d_P_isUnder_19 (zlt rfl) ?_
          refine z_goto (tgt := 2) d_P_isUnder_20 (by decide) ?_
          refine ih _ ?_ ?_
          · rcases hp j hj2 with q | ⟨q, q1, q2⟩
            · exact Or.inl q
            · exact Or.inr ⟨q, by omega, by omega, q2⟩
          · rw [← hv, und, if_neg (nI_pos (by omega)), if_neg c8, nI_clamp (by omega)]
        · refine z_iconst d_P_isUnder_11 ic_1 ?_
          exact z_zret rfl nz_1 d_P_isUnder_12 (zlq rfl) (zlq rfl) (⟨by rw [← hv, und, if_neg (nI_pos (by omega)), if_pos c8, bI_t, nI_one], rfl⟩)
  refine z_iload_n d_P_isUnder_0 rfl ?_
  refine z_istore_n d_P_isUnder_1 (zlt rfl) ?_
  refine lp 9 c ?_ rfl
  rcases hc with q | ⟨j, j1, j2⟩
  · exact Or.inl q
  · exact Or.inr ⟨j, by omega, j1, j2⟩
abbrev rm_P_found : Room := { frames := 0, cells := 0, slots := 0, locals := 0 }
set_option maxHeartbeats 4000000 in
set_option maxRecDepth 100000 in
theorem c_P_found (l : Launch) (E : zE) {A : rl → Nat} {K : Nat → Nat → Nat} (hA : cIj K A) (X S R : zSt) (hX : tInv X) (c g : Int32) (hc : c = -1 ∨ ∃ j, j < cn X 0 ∧ c = nI j) : zM l E y_P_found b_P_found 5 ((some .int)) rm_P_found [.ref (A (0, 0)), .int c, .int g] (cp E A K X S R) (zPi (fdf X g 9 c) (cp E A K X S R)) := by
  refine zM_w (by decide +kernel) rfl rfl (fun sz => ?_)
  obtain ⟨⟨⟨h0, b0⟩, ⟨h2, b2⟩, ⟨h4, b4⟩, ⟨h7, b7⟩, ⟨h16, b16⟩⟩, h18, h19, hp, hf0, hs, hst⟩ := id hX
  have lp : ∀ (f : Nat) (x : Int32), (x = -1 ∨ ∃ j, j < f ∧ j < cn X 0 ∧ x = nI j) → fdf X g f x = fdf X g 9 c → zG (zcx l E b_P_found "PointsToRounds" 5 ((some .int)) false rm_P_found (cp E A K X S R) sz (zPi (fdf X g 9 c) (cp E A K X S R))) 0 0 2 [some (.ref (A (0, 0))), some (.int c), some (.int g), some (.int (x)), none] [] (cp E A K X S R) := by
    intro f
    induction f with
    | zero =>
      intro x hx hv
      rcases hx with rfl | ⟨j, hj, -⟩
      · refine z_iload_n d_P_found_2 rfl ?_
        refine z_if_lt (tgt := 59) d_P_found_3 (by decide) (fun _ => ?_) (fun q => absurd zneg q)
        refine z_iconst (v := -1) d_P_found_59 ic_m1 ?_
        exact z_iret rfl d_P_found_60 (zlq rfl) (zlq rfl) (⟨by rw [← hv]; rfl, rfl⟩)
      · omega
    | succ f ih =>
      intro x hx hv
      rcases hx with rfl | ⟨j, hj, hj2, rfl⟩
      · refine z_iload_n d_P_found_2 rfl ?_
        refine z_if_lt (tgt := 59) d_P_found_3 (by decide) (fun _ => ?_) (fun q => absurd zneg q)
        refine z_iconst (v := -1) d_P_found_59 ic_m1 ?_
        exact z_iret rfl d_P_found_60 (zlq rfl) (zlq rfl) (⟨by rw [← hv]; unfold fdf; rw [if_pos zneg], rfl⟩)
      · refine z_iload_n d_P_found_2 rfl ?_
        refine z_if_lt (tgt := 59) d_P_found_3 (by decide) (fun q => absurd q (nI_pos (by omega))) (fun _ => ?_)
        refine z_iconst d_P_found_6 ic_0 ?_
        refine z_istore d_P_found_7 (zlt rfl) ?_
        have lq : ∀ (d k : Nat), k + d = cn X 4 → mwf X (nI j) g d k = tMw X (nI j) g → zG (zcx l E b_P_found "PointsToRounds" 5 ((some .int)) false rm_P_found (cp E A K X S R) sz (zPi (fdf X g 9 c) (cp E A K X S R))) 0 0 9 [some (.ref (A (0, 0))), some (.int c), some (.int g), some (.int (nI j)), some (.int (nI k))] [] (cp E A K X S R) := by
          intro d
          induction d with
          | zero =>
            intro k hk hm
            refine z_iload d_P_found_9 rfl ?_
            refine z_aload_n d_P_found_11 rfl ?_
            refine z_get fa_P_44 d_P_found_12 (cp_0 hA) rfl ?_
            refine z_top h4 ?_
            refine z_icmp_ge (tgt := 49) d_P_found_15 (by decide) (fun c15 => ?_) (fun c15 => absurd (nI_le (by omega) (by omega)) c15)
            have c15n := (nI_leI (by omega) (by omega)).mp c15
            refine z_aload_n d_P_found_49 rfl ?_
            refine z_get fa_P_7 d_P_found_50 (cp_0 hA) rfl ?_
            refine z_iload_n d_P_found_53 rfl ?_
            refine z_iald (j) d_P_found_54 (cp_1_0 hA) rfl (show j < 8 from by omega) (by decide) ?_
            refine z_istore_n d_P_found_55 (zlt rfl) ?_
            refine z_goto (tgt := 2) d_P_found_56 (by decide) ?_
            refine z_fl 4 ?_
            refine ih _ ?_ ?_
            · rcases hp j hj2 with q | ⟨q, q1, q2⟩
              · exact Or.inl q
              · exact Or.inr ⟨q, by omega, by omega, q2⟩
            · rw [← hv, fdf, if_neg (nI_pos (by omega)), if_pos (by rw [← hm]; exact zneg), nI_clamp (by omega)]
          | succ d ihd =>
            intro k hk hm
            refine z_iload d_P_found_9 rfl ?_
            refine z_aload_n d_P_found_11 rfl ?_
            refine z_get fa_P_44 d_P_found_12 (cp_0 hA) rfl ?_
            refine z_top h4 ?_
            refine z_icmp_ge (tgt := 49) d_P_found_15 (by decide) (fun c15 => absurd c15 (nI_ge (by omega) (by omega))) (fun c15 => ?_)
            have c15n := (not_congr (nI_leI (by omega) (by omega))).mp c15
            refine z_aload_n d_P_found_18 rfl ?_
            refine z_get fa_P_16 d_P_found_19 (cp_0 hA) rfl ?_
            refine z_iload d_P_found_22 rfl ?_
            refine z_iald (k) d_P_found_24 (cp_1_2 hA) rfl (show k < 10 from by omega) (by decide) ?_
            refine z_iload_n d_P_found_25 rfl ?_
            refine z_icmp_ne (tgt := 43) d_P_found_26 (by decide) (fun c26 => ?_) (fun c26 => ?_)
            · refine z_iinc (v := nI (k + 1)) d_P_found_43 (zlt rfl) rfl (zinc _) ?_
              refine z_goto (tgt := 9) d_P_found_46 (by decide) ?_
              refine ihd (k + 1) (by omega) ?_
              rw [← hm, mwf, if_neg c26]
            · refine z_aload_n d_P_found_29 rfl ?_
              refine z_get fa_P_19 d_P_found_30 (cp_0 hA) rfl ?_
              refine z_iload d_P_found_33 rfl ?_
              refine z_iald (k) d_P_found_35 (cp_1_3 hA) rfl (show k < 10 from by omega) (by decide) ?_
              refine z_iload_n d_P_found_36 rfl ?_
              refine z_icmp_ne (tgt := 43) d_P_found_37 (by decide) (fun c37 => ?_) (fun c37 => ?_)
              · refine z_iinc (v := nI (k + 1)) d_P_found_43 (zlt rfl) rfl (zinc _) ?_
                refine z_goto (tgt := 9) d_P_found_46 (by decide) ?_
                refine ihd (k + 1) (by omega) ?_
                rw [← hm, mwf, if_pos c26, if_neg c37]
              · refine z_iload d_P_found_40 rfl ?_
                exact z_iret rfl d_P_found_42 (zlq rfl) (zlq rfl) (⟨by rw [← hv, fdf, if_neg (nI_pos (by omega)), ← hm, mwf, if_pos c26, if_pos c37, if_neg (nI_pos (by omega))], rfl⟩)
        exact lq (cn X 4) 0 (by omega) rfl
  refine z_iload_n d_P_found_0 rfl ?_
  refine z_istore_n d_P_found_1 (zlt rfl) ?_
  refine lp 9 c ?_ rfl
  rcases hc with q | ⟨j, j1, j2⟩
  · exact Or.inl q
  · exact Or.inr ⟨j, by omega, j1, j2⟩
abbrev rm_P_hasField : Room := { frames := 1, cells := 0, slots := 0, locals := 23 }
set_option maxHeartbeats 4000000 in
set_option maxRecDepth 100000 in
theorem c_P_hasField (l : Launch) (E : zE) {A : rl → Nat} {K : Nat → Nat → Nat} (hA : cIj K A) (X S R : zSt) (hX : tInv X) (o f : Nat) (ho : o < cn X 16) (hf : f < cn X 2) : zM l E y_P_hasField b_P_hasField 3 ((some .boolean)) rm_P_hasField [.ref (A (0, 0)), .int (nI o), .int (nI f)] (cp E A K X S R) (zPi (bI (und X 9 (X 17 o) (X 3 f))) (cp E A K X S R)) := by
  refine zM_w (by decide +kernel) rfl rfl (fun sz => ?_)
  obtain ⟨⟨⟨h0, b0⟩, ⟨h2, b2⟩, ⟨h4, b4⟩, ⟨h7, b7⟩, ⟨h16, b16⟩⟩, h18, h19, hp, hf0, hs, hst⟩ := id hX
  refine z_aload_n d_P_hasField_0 rfl ?_
  refine z_aload_n d_P_hasField_1 rfl ?_
  refine z_get fa_P_32 d_P_hasField_2 (cp_0 hA) rfl ?_
  refine z_iload_n d_P_hasField_5 rfl ?_
  refine z_iald (o) d_P_hasField_6 (cp_1_4 hA) rfl (show o < 20 from by omega) (by decide) ?_
  refine z_aload_n d_P_hasField_7 rfl ?_
  refine z_get fa_P_13 d_P_hasField_8 (cp_0 hA) rfl ?_
  refine z_iload_n d_P_hasField_11 rfl ?_
  refine z_iald (f) d_P_hasField_12 (cp_1_1 hA) rfl (show f < 8 from by omega) (by decide) ?_
  refine z_cVi (c_P_isUnder l E hA _ _ _ hX (X 17 (o)) (X 3 (f)) (Or.inr (hs o ho))) cb_P_isUnder ci_P_isUnder ln_P_48 (cp_0 hA) rfl rfl (zlq rfl) rfl (zlq rfl) (zlq rfl) d_P_hasField_13 ?_
  exact z_zret rfl (bI_z _) d_P_hasField_16 (zlq rfl) (zlq rfl) (⟨rfl, rfl⟩)
theorem tbT {q : Int32} {o : Nat} (h : q >>> (nI o &&& 31) &&& nI 1 = nI 1) : tb q o = true := decide_eq_true h
theorem tbF {q : Int32} {o : Nat} (h : ¬ q >>> (nI o &&& 31) &&& nI 1 = nI 1) : ¬ tb q o = true := fun z => h (of_decide_eq_true z)
def cUn (X : zSt) (set c : Int32) (o : Nat) (z : Int32) : Int32 := if tb set o = true then (if und X 9 (X 17 o) c = true then z ||| sh1 o else z) else z
def cUnd (X : zSt) (set c : Int32) : Int32 := zit (fun o z => cUn X set c o z) (cn X 16) (nI 0)
abbrev rm_P_under : Room := { frames := 1, cells := 0, slots := 0, locals := 23 }
set_option maxHeartbeats 4000000 in
set_option maxRecDepth 100000 in
theorem c_P_under (l : Launch) (E : zE) {A : rl → Nat} {K : Nat → Nat → Nat} (hA : cIj K A) (X S R : zSt) (hX : tInv X) (set c : Int32) : zM l E y_P_under b_P_under 5 ((some .int)) rm_P_under [.ref (A (0, 0)), .int set, .int c] (cp E A K X S R) (zPi (cUnd X set c) (cp E A K X S R)) := by
  refine zM_w (by decide +kernel) rfl rfl (fun sz => ?_)
  obtain ⟨⟨⟨h0, b0⟩, ⟨h2, b2⟩, ⟨h4, b4⟩, ⟨h7, b7⟩, ⟨h16, b16⟩⟩, h18, h19, hp, hf0, hs, hst⟩ := id hX
  refine z_iconst d_P_under_0 ic_0 ?_
  refine z_istore_n d_P_under_1 (zlt rfl) ?_
  refine z_iconst d_P_under_2 ic_0 ?_
  refine z_istore d_P_under_3 (zlt rfl) ?_
  refine zlp (Gh := fun (kz : Nat) (Z : Int32) => zG (zcx l E b_P_under "PointsToRounds" 5 ((some .int)) false rm_P_under (cp E A K X S R) sz (zPi (cUnd X set c) (cp E A K X S R))) 0 0 5 [some (.ref (A (0, 0))), some (.int (set)), some (.int (c)), some (.int (Z)), some (.int (nI (kz)))] [] (cp E A K X S R)) (f := fun o z => cUn X set c o z) (N := cn X 16) (x0 := (nI 0)) ?_ ?_
  rotate_left
  · intro o ho iho
    generalize zit _ o _ = Zo at iho ⊢
    show zG (zcx l E b_P_under "PointsToRounds" 5 ((some .int)) false rm_P_under (cp E A K X S R) sz (zPi (cUnd X set c) (cp E A K X S R))) 0 0 5 [some (.ref (A (0, 0))), some (.int (set)), some (.int (c)), some (.int (Zo)), some (.int (nI (o)))] [] (cp E A K X S R)
    try dsimp only at iho
    refine z_iload d_P_under_5 rfl ?_
    refine z_aload_n d_P_under_7 rfl ?_
    refine z_get fa_P_52 d_P_under_8 (cp_0 hA) rfl ?_
    refine z_top h16 ?_
    refine z_icmp_ge (tgt := 52) d_P_under_11 (by decide) (fun c11 => absurd c11 (nI_ge ho (by omega))) (fun c11 => ?_)
    have c11n := (not_congr (nI_leI (by omega) (by omega))).mp c11
    refine z_iload_n d_P_under_14 rfl ?_
    refine z_iload d_P_under_15 rfl ?_
    refine z_ishr d_P_under_17 ?_
    refine z_iconst d_P_under_18 ic_1 ?_
    refine z_iand d_P_under_19 ?_
    refine z_iconst d_P_under_20 ic_1 ?_
    refine z_icmp_ne (tgt := 46) d_P_under_21 (by decide) (fun c21 => ?_) (fun c21 => ?_)
    · refine z_iinc (v := nI (o + 1)) d_P_under_46 (zlt rfl) rfl (zinc _) ?_
      refine z_goto (tgt := 5) d_P_under_49 (by decide) ?_
      unfold cUn at iho
      rw [if_neg (tbF c21)] at iho
      exact iho
    · refine z_aload_n d_P_under_24 rfl ?_
      refine z_aload_n d_P_under_25 rfl ?_
      refine z_get fa_P_32 d_P_under_26 (cp_0 hA) rfl ?_
      refine z_iload d_P_under_29 rfl ?_
      refine z_iald (o) d_P_under_31 (cp_1_4 hA) rfl (show o < 20 from by omega) (by decide) ?_
      refine z_iload_n d_P_under_32 rfl ?_
      refine z_cVi (c_P_isUnder l E hA _ _ _ hX (X 17 (o)) (c) (Or.inr (hs o ho))) cb_P_isUnder ci_P_isUnder ln_P_48 (cp_0 hA) rfl rfl (zlq rfl) rfl (zlq rfl) (zlq rfl) d_P_under_33 ?_
      refine z_if_eq (tgt := 46) d_P_under_36 (by decide) (fun c36 => ?_) (fun c36 => ?_)
      · have c36n := bI_e.mp c36
        refine z_iinc (v := nI (o + 1)) d_P_under_46 (zlt rfl) rfl (zinc _) ?_
        refine z_goto (tgt := 5) d_P_under_49 (by decide) ?_
        unfold cUn at iho
        rw [if_pos (tbT c21), if_neg (zbf c36n)] at iho
        exact iho
      · have c36n := bI_n.mp c36
        refine z_iload_n d_P_under_39 rfl ?_
        refine z_iconst d_P_under_40 ic_1 ?_
        refine z_iload d_P_under_41 rfl ?_
        refine z_ishl d_P_under_43 ?_
        refine z_ior d_P_under_44 ?_
        refine z_istore_n d_P_under_45 (zlt rfl) ?_
        refine z_iinc (v := nI (o + 1)) d_P_under_46 (zlt rfl) rfl (zinc _) ?_
        refine z_goto (tgt := 5) d_P_under_49 (by decide) ?_
        unfold cUn at iho
        rw [if_pos (tbT c21), if_pos c36n] at iho
        exact iho
  show zG (zcx l E b_P_under "PointsToRounds" 5 ((some .int)) false rm_P_under (cp E A K X S R) sz (zPi (cUnd X set c) (cp E A K X S R))) 0 0 5 [some (.ref (A (0, 0))), some (.int (set)), some (.int (c)), some (.int ((zit (fun o z => cUn X set c o z) (cn X 16) (nI 0)))), some (.int (nI (cn X 16)))] [] (cp E A K X S R)
  refine z_iload d_P_under_5 rfl ?_
  refine z_aload_n d_P_under_7 rfl ?_
  refine z_get fa_P_52 d_P_under_8 (cp_0 hA) rfl ?_
  refine z_top h16 ?_
  refine z_icmp_ge (tgt := 52) d_P_under_11 (by decide) (fun c11 => ?_) (fun c11 => absurd (nI_le (Nat.le_refl _) (by omega)) c11)
  have c11n := (nI_leI (by omega) (by omega)).mp c11
  refine z_iload_n d_P_under_52 rfl ?_
  exact z_iret rfl d_P_under_53 (zlq rfl) (zlq rfl) (⟨rfl, rfl⟩)
