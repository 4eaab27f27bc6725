/-! the twin's picture: its object and its arrays, out of one function X (field's place, index) -/
def tm_len (k : Nat) : Nat := match k with
  | 1 => 8 | 3 => 8 | 5 => 10 | 6 => 10 | 8 => 60 | 9 => 60 | 10 => 60 | 11 => 60 | 12 => 60 | 13 => 60 | 14 => 60 | 15 => 60 | 17 => 20
  | 20 => 1260 | 21 => 1260 | 22 => 160 | 23 => 160 | 24 => 20 | 25 => 20 | 26 => 4 | 27 => 4 | 28 => 10 | 29 => 10 | 30 => 1200
  | 33 => 30 | 34 => 240 | 35 => 30 | 36 => 4 | 38 => 10 | 39 => 10 | 40 => 10 | 41 => 60 | 42 => 60 | _ => 0
def tm_fs (A : Nat → Nat) (X : zSt) : List Value := [.int (X 0 0), .ref (A 1), .int (X 2 0), .ref (A 3), .int (X 4 0), .ref (A 5), .ref (A 6), .int (X 7 0), .ref (A 8), .ref (A 9), .ref (A 10), .ref (A 11), .ref (A 12), .ref (A 13), .ref (A 14), .ref (A 15), .int (X 16 0), .ref (A 17), .int (X 18 0), .int (X 19 0), .ref (A 20), .ref (A 21), .ref (A 22), .ref (A 23), .ref (A 24), .ref (A 25), .ref (A 26), .ref (A 27), .ref (A 28), .ref (A 29), .ref (A 30), .int (X 31 0), .int (X 32 0), .ref (A 33), .ref (A 34), .ref (A 35), .ref (A 36), .int (X 37 0), .ref (A 38), .ref (A 39), .ref (A 40), .ref (A 41), .ref (A 42), .int (X 43 0)]
def tm_dm (k : Nat) : Prop := (k == 44 || tm_len k != 0) = true
def tm_ct (E : zE) (A : Nat → Nat) (X : zSt) (k : Nat) : va_E := if k = 44 then zob 8 (tm_fs A X) else zeI E (tm_len k) (X k)
noncomputable def tp (E : zE) (A : Nat → Nat) (X : zSt) : zPH := zpm tm_dm A (tm_ct E A X)
abbrev tmI (A : Nat → Nat) : Prop := zinj tm_dm A
theorem tp_o {E : zE} {A : Nat → Nat} {X : zSt} (hA : tmI A) : tp E A X (A 44) = some (zob 8 (tm_fs A X)) := zpm_at hA (i := 44) rfl
theorem tp_a {E : zE} {A : Nat → Nat} {X : zSt} (hA : tmI A) (k : Nat) (hk : (k != 44 && tm_len k != 0) = true) : tp E A X (A k) = some (zeI E (tm_len k) (X k)) := by
  rw [Bool.and_eq_true] at hk
  have h1 : k ≠ 44 := by simpa using hk.1
  have e1 : tm_ct E A X k = zeI E (tm_len k) (X k) := if_neg h1
  rw [← e1]
  exact zpm_at hA (by unfold tm_dm; rw [hk.2]; simp)
theorem tm_fsl (A : Nat → Nat) (X : zSt) : (tm_fs A X).length = 44 := rfl
theorem tp_upO {E : zE} {A : Nat → Nat} {X X' : zSt} (hA : tmI A) {fs : List Value} (h1 : fs = tm_fs A X') (h2 : ∀ j, tm_len j ≠ 0 → X' j = X j) : zpu (tp E A X) (A 44) (zob 8 fs) = tp E A X' := by
  refine zpm_up hA (i := 44) rfl (by rw [h1]; rfl) (fun j hj hne => ?_)
  unfold tm_ct
  rw [if_neg hne, if_neg hne]
  have : tm_len j ≠ 0 := by
    unfold tm_dm at hj
    simp [hne] at hj
    exact hj
  rw [h2 j this]
theorem tp_upA {E : zE} {A : Nat → Nat} {X : zSt} (hA : tmI A) {k : Nat} {f : Nat → Int32} (hk : (k != 44 && tm_len k != 0) = true) (hf : tm_fs A (va_up X k f) = tm_fs A X) : zpu (tp E A X) (A k) (zeI E (tm_len k) f) = tp E A (va_up X k f) := by
  rw [Bool.and_eq_true] at hk
  have h1 : k ≠ 44 := by simpa using hk.1
  refine zpm_up hA (i := k) (by unfold tm_dm; rw [hk.2]; simp) ?_ (fun j hj hne => ?_)
  · unfold tm_ct
    rw [if_neg h1, va_up_self]
  · unfold tm_ct
    by_cases h44 : j = 44
    · rw [if_pos h44, if_pos h44, hf]
    · rw [if_neg h44, if_neg h44, va_up_ne _ _ hne]
theorem tm_fs_c {A : Nat → Nat} {X Y : zSt} (h : ∀ j, tm_len j = 0 → Y j = X j) : tm_fs A Y = tm_fs A X := by
  unfold tm_fs
  rw [h 0 rfl, h 2 rfl, h 4 rfl, h 7 rfl, h 16 rfl, h 18 rfl, h 19 rfl, h 31 rfl, h 32 rfl, h 37 rfl, h 43 rfl]
theorem tm_fs_a {A : Nat → Nat} {X : zSt} {k : Nat} {f : Nat → Int32} (hk : (k != 44 && tm_len k != 0) = true) : tm_fs A (va_up X k f) = tm_fs A X := by
  refine tm_fs_c (fun j hj => va_up_ne _ _ (fun z => ?_))
  subst z
  rw [hj] at hk
  simp at hk
theorem tm_fs_p {A : Nat → Nat} {X : zSt} {k : Nat} {v : Int32} (hl : k < 44) (h0 : tm_len k = 0) : (tm_fs A X).set k (.int v) = tm_fs A (va_up X k (fun _ => v)) := by
  have hc : k = 0 ∨ k = 2 ∨ k = 4 ∨ k = 7 ∨ k = 16 ∨ k = 18 ∨ k = 19 ∨ k = 31 ∨ k = 32 ∨ k = 37 ∨ k = 43 := by
    revert h0
    revert hl
    revert k
    decide
  rcases hc with rfl | rfl | rfl | rfl | rfl | rfl | rfl | rfl | rfl | rfl | rfl <;> rfl
section TR
variable {C : zC} {k n pc : Nat} {L : zL} {st : List Value} {A : Nat → Nat} {X : zSt}
theorem t_put {idx kf : Nat} {v : Int32} (fp : zFP C.own idx 8 kf .int false) (hd : decode C.cc pc = .ok (.putfield idx, 3)) (hA : tmI A) (hl : kf < 44) (h0 : tm_len kf = 0) (kk : zG C k n (pc + 3) L st (tp C.E A (va_up X kf (fun _ => v)))) : zG C k n pc L (.int v :: .ref (A 44) :: st) (tp C.E A X) := by
  refine z_put fp hd (tp_o hA) (vp_nar_int v) rfl (by rw [tm_fsl]; exact hl) ?_
  rw [tp_upO hA (tm_fs_p hl h0) (fun j hj => va_up_ne _ _ (fun z => hj (by rw [z]; exact h0)))]
  exact kk
theorem t_putZ {idx kf : Nat} {v : Int32} (fp : zFP C.own idx 8 kf .boolean false) (hz : v = 0 ∨ v = 1) (hd : decode C.cc pc = .ok (.putfield idx, 3)) (hA : tmI A) (hl : kf < 44) (h0 : tm_len kf = 0) (kk : zG C k n (pc + 3) L st (tp C.E A (va_up X kf (fun _ => v)))) : zG C k n pc L (.int v :: .ref (A 44) :: st) (tp C.E A X) := by
  refine z_put fp hd (tp_o hA) (z_nb hz) (by rcases hz with rfl | rfl <;> rfl) (by rw [tm_fsl]; exact hl) ?_
  rw [tp_upO hA (tm_fs_p hl h0) (fun j hj => va_up_ne _ _ (fun z => hj (by rw [z]; exact h0)))]
  exact kk
theorem t_ast {kf j : Nat} {x y : Int32} (hd : decode C.cc pc = .ok (.iastore, 1)) (hA : tmI A) (hk : (kf != 44 && tm_len kf != 0) = true) (hx : x = nI j) (hj : j < tm_len kf) (hN : tm_len kf < 2 ^ 31) (kk : zG C k n (pc + 1) L st (tp C.E A (va_up X kf (upd (X kf) j y)))) : zG C k n pc L (.int y :: .int x :: .ref (A kf) :: st) (tp C.E A X) := by
  refine z_iast j hd (tp_a hA kf hk) hx hj hN ?_
  rw [tp_upA hA hk (tm_fs_a hk)]
  exact kk
end TR
theorem bI_e {b : Bool} : bI b = 0 ↔ b = false := by cases b <;> simp [bI]
theorem bI_n {b : Bool} : ¬ bI b = 0 ↔ b = true := by cases b <;> simp [bI]
theorem nI_z {a : Nat} (h : a < 2 ^ 31) : nI a = 0 ↔ a = 0 := by
  have := nI_eq (a := a) (b := 0) h (by decide)
  rw [nI_0] at this
  exact this
theorem nz_0 : nI 0 = 0 ∨ nI 0 = 1 := Or.inl (by decide +kernel)
theorem nz_1 : nI 1 = 0 ∨ nI 1 = 1 := Or.inr (by decide +kernel)
theorem nI_one : nI 1 = 1 := by decide +kernel
/-- numbers of a state -/
def cn (X : zSt) (k : Nat) : Nat := (X k 0).toNatClampNeg
def ne (X : zSt) (k i : Nat) : Nat := (X k i).toNatClampNeg
def tSok (X : zSt) (i : Nat) : Prop :=
  (X 8 i = nI (ne X 8 i) ∧ ne X 8 i < cn X 4) ∧ (X 9 i = nI (ne X 9 i) ∧ ne X 9 i < 10) ∧ (X 10 i = nI (ne X 10 i) ∧ ne X 10 i < 6 ∧ (ne X 9 i = 6 → ne X 10 i < 4)) ∧ (X 11 i = nI (ne X 11 i) ∧ ne X 11 i < 8 ∧ (ne X 9 i = 5 → ne X 11 i < 4) ∧ (ne X 9 i ≠ 0 → ne X 9 i ≠ 5 → ne X 11 i < 6)) ∧
  (ne X 9 i = 2 ∨ ne X 9 i = 3 → X 12 i = nI (ne X 12 i) ∧ ne X 12 i < cn X 2) ∧ (ne X 9 i = 7 → (X 13 i = nI (ne X 13 i) ∧ ne X 13 i < 6) ∧ (X 14 i = nI (ne X 14 i) ∧ ne X 14 i < 6)) ∧ (ne X 9 i = 0 → X 15 i = nI (ne X 15 i) ∧ ne X 15 i < cn X 16)
def tInv (X : zSt) : Prop :=
  ((X 0 0 = nI (cn X 0) ∧ cn X 0 ≤ 8) ∧ (X 2 0 = nI (cn X 2) ∧ cn X 2 ≤ 8) ∧ (X 4 0 = nI (cn X 4) ∧ cn X 4 ≤ 10) ∧ (X 7 0 = nI (cn X 7) ∧ cn X 7 ≤ 60) ∧ (X 16 0 = nI (cn X 16) ∧ cn X 16 ≤ 20)) ∧ (X 18 0 = 0 ∨ X 18 0 = 1) ∧ (X 19 0 = 0 ∨ X 19 0 = 1) ∧
  (∀ c, c < cn X 0 → X 1 c = -1 ∨ ∃ q, q < c ∧ X 1 c = nI q) ∧ (∀ f, f < cn X 2 → ∃ c, c < cn X 0 ∧ X 3 f = nI c) ∧ (∀ o, o < cn X 16 → ∃ c, c < cn X 0 ∧ X 17 o = nI c) ∧ (∀ i, i < cn X 7 → tSok X i)
/-- pure answers -/
def tIn (x n : Int32) : Bool := !decide (x < 0) && !decide (n ≤ x)
theorem zbf {b : Bool} (h : b = false) : ¬ b = true := by rw [h]; decide
theorem zit_fill {a : Nat} {g : Nat → Int32} {X : zSt} : ∀ N : Nat, zit (fun k (Y : zSt) => va_up Y a (upd (Y a) k (g k))) N X = va_up X a (fun j => if j < N then g j else X a j) := by
  intro N
  induction N with
  | zero =>
    funext q
    by_cases hq : q = a
    · subst hq; rw [va_up_self]; rfl
    · rw [va_up_ne _ _ hq]; rfl
  | succ N ih =>
    rw [zit, ih]
    funext q
    by_cases hq : q = a
    · subst hq
      rw [va_up_self, va_up_self, va_up_self]
      funext j
      unfold upd
      by_cases hj : j = N
      · subst hj; rw [if_pos rfl, if_pos (by omega)]
      · rw [if_neg hj]
        dsimp only
        by_cases h2 : j < N
        · rw [if_pos h2, if_pos (by omega)]
        · rw [if_neg h2, if_neg (by omega)]
    · rw [va_up_ne _ _ hq, va_up_ne _ _ hq, va_up_ne _ _ hq]
theorem zit_copy {a b : Nat} {X : zSt} (hab : b ≠ a) : ∀ N : Nat, zit (fun k (Y : zSt) => va_up Y a (upd (Y a) k (Y b k))) N X = va_up X a (fun j => if j < N then X b j else X a j) := by
  intro N
  induction N with
  | zero =>
    funext q
    by_cases hq : q = a
    · subst hq; rw [va_up_self]; rfl
    · rw [va_up_ne _ _ hq]; rfl
  | succ N ih =>
    rw [zit, ih]
    funext q
    by_cases hq : q = a
    · subst hq
      rw [va_up_self, va_up_self, va_up_self, va_up_ne _ _ hab]
      funext j
      unfold upd
      by_cases hj : j = N
      · subst hj; rw [if_pos rfl, if_pos (by omega)]
      · rw [if_neg hj]
        dsimp only
        by_cases h2 : j < N
        · rw [if_pos h2, if_pos (by omega)]
        · rw [if_neg h2, if_neg (by omega)]
    · rw [va_up_ne _ _ hq, va_up_ne _ _ hq, va_up_ne _ _ hq]
/-- the same but for some fields -/
def tsm (S : List Nat) (X Y : zSt) : Prop := ∀ j, j ∉ S → Y j = X j
theorem tsm_rf {S : List Nat} {X : zSt} : tsm S X X := fun _ _ => rfl
theorem tsm_tr {S : List Nat} {X Y Z : zSt} (h1 : tsm S X Y) (h2 : tsm S Y Z) : tsm S X Z := fun j hj => (h2 j hj).trans (h1 j hj)
theorem tsm_up {S : List Nat} {X : zSt} {k : Nat} {f : Nat → Int32} (hk : k ∈ S) : tsm S X (va_up X k f) := fun j hj => va_up_ne _ _ (fun z => hj (by rw [z]; exact hk))
theorem tsm_w {S T : List Nat} {X Y : zSt} (h : tsm S X Y) (hs : ∀ k ∈ S, k ∈ T) : tsm T X Y := fun j hj => h j (fun z => hj (hs j z))
