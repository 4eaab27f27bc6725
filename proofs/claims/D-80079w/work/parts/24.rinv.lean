/-! runs: the invariant is kept (pure) -/
theorem oR_mono {n m : Nat} {x : Int32} (h : oR n x) (hm : n ≤ m) : oR m x := by
  rcases h with h | ⟨o, h1, h2⟩
  · exact Or.inl h
  · exact Or.inr ⟨o, by omega, h2⟩
def iR (n : Nat) (x : Int32) : Prop := ∃ m : Nat, m < n ∧ x = nI m
theorem iR_ne {X : zSt} {k j n : Nat} (hn : n < 2 ^ 31) : iR n (X k j) ↔ (X k j = nI (ne X k j) ∧ ne X k j < n) := by
  constructor
  · intro ⟨m, h1, h2⟩
    have e : ne X k j = m := by unfold ne; rw [h2]; exact nI_clamp (by omega)
    rw [e]
    exact ⟨h2, h1⟩
  · intro ⟨h1, h2⟩
    exact ⟨_, h2, h1⟩
def rI (fr ob nm ns : Nat) (f38 f39 f40 f41 f33 f35 f34 f36 : Nat → Int32) : Prop :=
  (1 ≤ fr ∧ fr ≤ 10) ∧ ob ≤ 30 ∧ (∀ j, j < fr → iR nm (f38 j) ∧ iR 21 (f39 j) ∧ iR 6 (f40 j)) ∧ (∀ j, j < fr → ∀ n, n < 6 → oR ob (f41 (6 * j + n))) ∧
  (∀ o, o < ob → iR ns (f33 o)) ∧ (∀ o, o < ob → oR ob (f35 o)) ∧ (∀ o, o < ob → ∀ f, f < 8 → oR ob (f34 (8 * o + f))) ∧ (∀ s, s < 4 → oR ob (f36 s))
theorem rInv_iff {X : zSt} (h4 : cn X 4 ≤ 10) (h16 : cn X 16 ≤ 20) : rInv X ↔ (X 37 0 = nI (cn X 37) ∧ X 32 0 = nI (cn X 32) ∧ rI (cn X 37) (cn X 32) (cn X 4) (cn X 16) (X 38) (X 39) (X 40) (X 41) (X 33) (X 35) (X 34) (X 36)) := by
  unfold rInv rI
  constructor
  · intro ⟨⟨a1, a2, a3⟩, ⟨b1, b2⟩, c1, c2, c3, c4, c5, c6⟩
    exact ⟨a1, b1, ⟨a2, a3⟩, b2, fun j hj => ⟨(iR_ne (by omega)).mpr (c1 j hj).1, (iR_ne (by omega)).mpr (c1 j hj).2.1, (iR_ne (by omega)).mpr (c1 j hj).2.2⟩, c2, fun o ho => (iR_ne (by omega)).mpr (c3 o ho), c4, c5, c6⟩
  · intro ⟨a1, b1, ⟨a2, a3⟩, b2, c1, c2, c3, c4, c5, c6⟩
    exact ⟨⟨a1, a2, a3⟩, ⟨b1, b2⟩, fun j hj => ⟨(iR_ne (by omega)).mp (c1 j hj).1, (iR_ne (by omega)).mp (c1 j hj).2.1, (iR_ne (by omega)).mp (c1 j hj).2.2⟩, c2, fun o ho => (iR_ne (by omega)).mp (c3 o ho), c4, c5, c6⟩
section RI
variable {fr ob nm ns : Nat} {f38 f39 f40 f41 f33 f35 f34 f36 : Nat → Int32}
theorem upd_all {f : Nat → Int32} {P : Int32 → Prop} {Q : Nat → Prop} {j : Nat} {v : Int32} (h : ∀ k, Q k → P (f k)) (hv : P v) : ∀ k, Q k → P (upd f j v k) := by
  intro k hk
  unfold upd
  split
  · exact hv
  · exact h k hk
theorem rI_41 (h : rI fr ob nm ns f38 f39 f40 f41 f33 f35 f34 f36) {j : Nat} {v : Int32} (hv : oR ob v) : rI fr ob nm ns f38 f39 f40 (upd f41 j v) f33 f35 f34 f36 := by
  obtain ⟨a, b, c1, c2, c3, c4, c5, c6⟩ := h
  refine ⟨a, b, c1, fun k hk n hn => ?_, c3, c4, c5, c6⟩
  unfold upd
  split
  · exact hv
  · exact c2 k hk n hn
theorem rI_34 (h : rI fr ob nm ns f38 f39 f40 f41 f33 f35 f34 f36) {j : Nat} {v : Int32} (hv : oR ob v) : rI fr ob nm ns f38 f39 f40 f41 f33 f35 (upd f34 j v) f36 := by
  obtain ⟨a, b, c1, c2, c3, c4, c5, c6⟩ := h
  refine ⟨a, b, c1, c2, c3, c4, fun k hk n hn => ?_, c6⟩
  unfold upd
  split
  · exact hv
  · exact c5 k hk n hn
theorem rI_35 (h : rI fr ob nm ns f38 f39 f40 f41 f33 f35 f34 f36) {j : Nat} {v : Int32} (hv : oR ob v) : rI fr ob nm ns f38 f39 f40 f41 f33 (upd f35 j v) f34 f36 := by
  obtain ⟨a, b, c1, c2, c3, c4, c5, c6⟩ := h
  exact ⟨a, b, c1, c2, c3, upd_all (P := oR ob) (Q := fun o => o < ob) c4 hv, c5, c6⟩
theorem rI_36 (h : rI fr ob nm ns f38 f39 f40 f41 f33 f35 f34 f36) {j : Nat} {v : Int32} (hv : oR ob v) : rI fr ob nm ns f38 f39 f40 f41 f33 f35 f34 (upd f36 j v) := by
  obtain ⟨a, b, c1, c2, c3, c4, c5, c6⟩ := h
  exact ⟨a, b, c1, c2, c3, c4, c5, upd_all (P := oR ob) (Q := fun s => s < 4) c6 hv⟩
theorem rI_pop (h : rI fr ob nm ns f38 f39 f40 f41 f33 f35 f34 f36) (hf : fr ≠ 1) : rI (fr - 1) ob nm ns f38 f39 f40 f41 f33 f35 f34 f36 := by
  obtain ⟨a, b, c1, c2, c3, c4, c5, c6⟩ := h
  exact ⟨by omega, b, fun j hj => c1 j (by omega), fun j hj => c2 j (by omega), c3, c4, c5, c6⟩
theorem rI_push (h : rI fr ob nm ns f38 f39 f40 f41 f33 f35 f34 f36) (hf : fr < 10) {m c t : Int32} {g41 : Nat → Int32} (hm : iR nm m) (hc : iR 21 c) (ht : iR 6 t) (hg : ∀ j, j < 6 * fr → g41 j = f41 j) (hg2 : ∀ n, n < 6 → oR ob (g41 (6 * fr + n))) : rI (fr + 1) ob nm ns (upd f38 fr m) (upd f39 fr c) (upd f40 fr t) g41 f33 f35 f34 f36 := by
  obtain ⟨a, b, c1, c2, c3, c4, c5, c6⟩ := h
  refine ⟨by omega, b, fun j hj => ?_, fun j hj n hn => ?_, c3, c4, c5, c6⟩
  · unfold upd
    by_cases hj2 : j = fr
    · rw [if_pos hj2, if_pos hj2, if_pos hj2]; exact ⟨hm, hc, ht⟩
    · rw [if_neg hj2, if_neg hj2, if_neg hj2]; exact c1 j (by omega)
  · by_cases hj2 : j = fr
    · rw [hj2]; exact hg2 n hn
    · rw [hg (6 * j + n) (by omega)]; exact c2 j (by omega) n hn
theorem rI_obj (h : rI fr ob nm ns f38 f39 f40 f41 f33 f35 f34 f36) (ho : ob < 30) {s : Int32} {g34 : Nat → Int32} {to : Nat} (hs : iR ns s) (hg : ∀ j, j < 8 * ob → g34 j = f34 j) (hg2 : ∀ f, f < 8 → g34 (8 * ob + f) = -1) : rI fr (ob + 1) nm ns f38 f39 f40 (upd f41 to (nI ob)) (upd f33 ob s) (upd f35 ob (-1)) g34 f36 := by
  obtain ⟨a, b, c1, c2, c3, c4, c5, c6⟩ := h
  refine ⟨a, by omega, c1, fun j hj n hn => ?_, fun o h1 => ?_, fun o h1 => ?_, fun o h1 f hf => ?_, fun s hs => oR_mono (c6 s hs) (by omega)⟩
  · unfold upd
    split
    · exact Or.inr ⟨ob, by omega, rfl⟩
    · exact oR_mono (c2 j hj n hn) (by omega)
  · unfold upd
    split
    · exact hs
    · exact c3 o (by omega)
  · unfold upd
    split
    · exact Or.inl rfl
    · exact oR_mono (c4 o (by omega)) (by omega)
  · by_cases h2 : o = ob
    · rw [h2, hg2 f hf]; exact Or.inl rfl
    · rw [hg (8 * o + f) (by omega)]; exact oR_mono (c5 o (by omega) f hf) (by omega)
end RI
theorem zit_off {a b : Nat} {v : Int32} {X : zSt} : ∀ N : Nat, zit (fun k (Y : zSt) => va_up Y a (upd (Y a) (b + k) v)) N X = va_up X a (fun j => if b ≤ j ∧ j < b + N then v else X a j) := by
  intro N
  induction N with
  | zero =>
    funext q
    by_cases hq : q = a
    · subst hq
      rw [va_up_self]
      funext j
      rw [if_neg (by omega)]
      rfl
    · rw [va_up_ne _ _ hq]; rfl
  | succ N ih =>
    rw [zit, ih]
    funext q
    by_cases hq : q = a
    · subst hq
      rw [va_up_self, va_up_self, va_up_self]
      funext j
      unfold upd
      by_cases hj : j = b + N
      · rw [if_pos hj, if_pos (by omega)]
      · rw [if_neg hj]
        dsimp only
        by_cases h2 : b ≤ j ∧ j < b + N
        · rw [if_pos h2, if_pos (by omega)]
        · rw [if_neg h2, if_neg (by omega)]
    · rw [va_up_ne _ _ hq, va_up_ne _ _ hq, va_up_ne _ _ hq]
theorem cn_up {X : zSt} {k j : Nat} {f : Nat → Int32} (h : j ≠ k) : cn (va_up X k f) j = cn X j := by unfold cn; rw [va_up_ne _ _ h]
theorem cn_us {X : zSt} {k : Nat} {v : Nat} (hv : v < 2 ^ 31) : cn (va_up X k (fun _ => nI v)) k = v := by unfold cn; rw [va_up_self]; exact nI_clamp hv
/-- the run's fields with what they rest on -/
theorem rInv_of {X : zSt} {fr ob : Nat} (h4 : cn X 4 ≤ 10) (h16 : cn X 16 ≤ 20) (e37 : X 37 0 = nI fr) (e32 : X 32 0 = nI ob) (h : rI fr ob (cn X 4) (cn X 16) (X 38) (X 39) (X 40) (X 41) (X 33) (X 35) (X 34) (X 36)) : rInv X := by
  have c37 : cn X 37 = fr := by unfold cn; rw [e37]; exact nI_clamp (by have := h.1.2; omega)
  have c32 : cn X 32 = ob := by unfold cn; rw [e32]; exact nI_clamp (by have := h.2.1; omega)
  refine (rInv_iff h4 h16).mpr ?_
  rw [c37, c32]
  exact ⟨e37, e32, h⟩
theorem rInv_c {X Y : zSt} (h : ∀ j, j = 4 ∨ j = 16 ∨ (32 ≤ j ∧ j ≤ 41) → Y j = X j) (hX : rInv X) : rInv Y := by
  unfold rInv ne cn at *
  rw [h 4 (by omega), h 16 (by omega), h 32 (by omega), h 33 (by omega), h 34 (by omega), h 35 (by omega), h 36 (by omega), h 37 (by omega), h 38 (by omega), h 39 (by omega), h 40 (by omega), h 41 (by omega)]
  exact hX
theorem rInv_leave {X : zSt} (hI : tInv X) (hR : rInv X) : rInv (tLeave X) := by
  obtain ⟨⟨-, -, ⟨-, b4⟩, -, ⟨-, b16⟩⟩, -⟩ := hI
  have ⟨e37, e32, h⟩ := (rInv_iff b4 b16).mp hR
  have hr := h.1
  unfold tLeave
  by_cases hc : nI (cn X 37) = nI 1
  · rw [if_pos hc]; exact hR
  · rw [if_neg hc]
    have hc' : cn X 37 ≠ 1 := fun z => hc (by rw [z])
    refine rInv_of (fr := cn X 37 - 1) (ob := cn X 32) (by rw [cn_up (by decide), cn_up (by decide)]; exact b4) (by rw [cn_up (by decide), cn_up (by decide)]; exact b16) rfl e32 ?_
    rw [cn_up (by decide), cn_up (by decide), cn_up (by decide), cn_up (by decide)]
    exact rI_41 (rI_pop h hc') (h.2.2.2.1 (cn X 37 - 1) (by omega) 5 (by omega))
theorem rInv_make {X : zSt} (hI : tInv X) (hR : rInv X) {i to : Nat} (hs : iR (cn X 16) (X 15 i)) : rInv (tMake X i to) := by
  obtain ⟨⟨-, -, ⟨-, b4⟩, -, ⟨-, b16⟩⟩, -⟩ := hI
  have ⟨e37, e32, h⟩ := (rInv_iff b4 b16).mp hR
  have ho := h.2.1
  unfold tMake
  by_cases hc : nI (cn X 32) = nI 30
  · rw [if_pos hc]; exact hR
  · rw [if_neg hc]
    have hc' : cn X 32 < 30 := by
      have : cn X 32 ≠ 30 := fun z => hc (by rw [z])
      omega
    have em : tMk1 X i = va_up (va_up (va_up X 33 (upd (X 33) (cn X 32) (X 15 i))) 35 (upd (X 35) (cn X 32) (-1))) 34 (fun j => if 8 * (cn X 32) ≤ j ∧ j < 8 * (cn X 32) + 8 then -1 else X 34 j) := by
      unfold tMk1
      rw [zit_off]
      rfl
    rw [em]
    refine rInv_of (fr := cn X 37) (ob := cn X 32 + 1) b4 b16 e37 rfl ?_
    exact rI_obj h hc' hs (fun j hj => if_neg (by omega)) (fun f hf => if_pos (by omega))
theorem rInv_ent {X : zSt} (hI : tInv X) (hR : rInv X) {i b : Nat} (hb : b = 6 * (cn X 37 - 1)) (hp : iR 6 (X 10 i)) (h13 : ne X 13 i < 6) (h14 : ne X 14 i < 6) {q : Int32} (hq : oR (cn X 32) q) : rInv (tEnt X i b q) := by
  have hI0 := hI
  obtain ⟨⟨-, -, ⟨-, b4⟩, -, ⟨-, b16⟩⟩, -⟩ := hI
  have ⟨e37, e32, h⟩ := (rInv_iff b4 b16).mp hR
  have hr := h.1
  unfold tEnt
  by_cases hq0 : q < 0
  · rw [if_pos hq0]; exact hR
  · rw [if_neg hq0]
    obtain ⟨oj, hoj, rfl⟩ : ∃ o : Nat, o < cn X 32 ∧ q = nI o := by
      rcases hq with rfl | hq
      · exact absurd zneg hq0
      · exact hq
    have ho := h.2.1
    rw [nI_clamp (by omega)]
    generalize hm : fdf X (X 12 i) 9 (X 17 (ne X 33 oj)) = m
    unfold tEn1
    by_cases c1 : m < 0
    · rw [if_pos c1]; exact hR
    · rw [if_neg c1]
      by_cases c2 : nI (cn X 37) = nI 10
      · rw [if_pos c2]; exact hR
      · rw [if_neg c2]
        have hlt : cn X 37 < 10 := by
          have : cn X 37 ≠ 10 := fun z => c2 (by rw [z])
          omega
        obtain ⟨mn, hmn, em⟩ := fdf_nat (X := X) (g := X 12 i) 9 (X 17 (ne X 33 oj)) (by rw [hm]; exact Int32.not_lt.mp c1) (by omega)
        have key : ∀ c : Int32, iR 21 c → rInv (tEn2 X i b (nI oj) m c) := by
          intro c hc
          have eo : tOpen X m c (X 10 i) = va_up (va_up (tOp1 X m c (X 10 i)) 41 (fun j => if 6 * (cn X 37) ≤ j ∧ j < 6 * (cn X 37) + 6 then -1 else X 41 j)) 37 (fun _ => nI (cn X 37 + 1)) := by
            unfold tOpen
            rw [zit_off]
            rfl
          unfold tEn2
          rw [eo]
          refine rInv_of (fr := cn X 37 + 1) (ob := cn X 32) b4 b16 rfl e32 ?_
          have h41 : ∀ n, n < 6 → oR (cn X 32) (X 41 (b + n)) := fun n hn => by rw [hb]; exact h.2.2.2.1 (cn X 37 - 1) (by omega) n hn
          refine rI_41 (rI_41 (rI_41 (rI_push (m := m) (c := c) (t := X 10 i) (g41 := fun j => if 6 * (cn X 37) ≤ j ∧ j < 6 * (cn X 37) + 6 then -1 else X 41 j) h hlt ⟨mn, hmn, by rw [← hm]; exact em⟩ hc hp (fun j hj => if_neg (by omega)) (fun n hn => ?_)) hq) (h41 _ h13)) (h41 _ h14)
          rw [if_pos (by omega)]
          exact Or.inl rfl
        by_cases c3 : X 18 0 = 0
        · rw [if_pos c3]; exact key _ ⟨0, by omega, rfl⟩
        · rw [if_neg c3]
          rw [nI_clamp (by omega)]
          obtain ⟨sn, hsn, es⟩ := h.2.2.2.2.1 oj hoj
          have e33 : ne X 33 oj = sn := by unfold ne; rw [es]; exact nI_clamp (by omega)
          exact key _ ⟨1 + ne X 33 oj, by omega, rfl⟩
theorem rInv_act {X : zSt} (hI : tInv X) (hR : rInv X) {i : Nat} (hi : i < cn X 7) : rInv (tAct X i) := by
  have hI0 := hI
  obtain ⟨⟨-, -, ⟨-, b4⟩, -, ⟨-, b16⟩⟩, -, -, -, -, -, hst⟩ := hI
  have ⟨e37, e32, h⟩ := (rInv_iff b4 b16).mp hR
  obtain ⟨-, ⟨s9, l9⟩, ⟨s10, l10, l10a⟩, ⟨s11, l11, l11a, l11b⟩, s12, s13, s15⟩ := hst i hi
  have hr := h.1
  have h41 : ∀ n, n < 6 → oR (cn X 32) (X 41 (6 * (cn X 37 - 1) + n)) := fun n hn => h.2.2.2.1 (cn X 37 - 1) (by omega) n hn
  have u41 : ∀ {j : Nat} {v : Int32}, oR (cn X 32) v → rInv (va_up X 41 (upd (X 41) j v)) := fun hv => rInv_of (fr := cn X 37) (ob := cn X 32) b4 b16 e37 e32 (rI_41 h hv)
  have clo : ∀ {x : Int32}, oR (cn X 32) x → ¬ x < 0 → x.toNatClampNeg < cn X 32 := by
    intro x hx h0
    rcases hx with rfl | ⟨o, ho, rfl⟩
    · exact absurd zneg h0
    · rw [nI_clamp (by have := h.2.1; omega)]; exact ho
  have chv : ∀ {x : Int32} {f : Nat}, cHv X x f = true → ¬ x < 0 := by
    intro x f hc h0
    unfold cHv at hc
    rw [if_pos h0] at hc
    cases hc
  rcases (show ne X 9 i = 0 ∨ ne X 9 i = 1 ∨ ne X 9 i = 2 ∨ ne X 9 i = 3 ∨ ne X 9 i = 4 ∨ ne X 9 i = 5 ∨ ne X 9 i = 6 ∨ ne X 9 i = 7 ∨ ne X 9 i = 8 ∨ ne X 9 i = 9 by omega) with e | e | e | e | e | e | e | e | e | e
  · rw [tAct_0 e]
    exact rInv_make hI0 hR ⟨_, (s15 e).2, (s15 e).1⟩
  · rw [tAct_1 e]
    exact u41 (h41 _ (l11b (by omega) (by omega)))
  · rw [tAct_2 e]
    have r12 := (s12 (by omega)).2
    refine u41 ?_
    split
    · rename_i hc
      exact h.2.2.2.2.2.2.1 _ (clo (h41 _ (l11b (by omega) (by omega))) (chv hc)) _ (by have := hI0.1.2.1.2; omega)
    · exact h41 _ l10
  · rw [tAct_3 e]
    split
    · exact rInv_of (fr := cn X 37) (ob := cn X 32) b4 b16 e37 e32 (rI_34 h (h41 _ (l11b (by omega) (by omega))))
    · exact hR
  · rw [tAct_4 e]
    refine u41 ?_
    split
    · exact h41 _ (l11b (by omega) (by omega))
    · split
      · exact h41 _ (l11b (by omega) (by omega))
      · exact h41 _ l10
  · rw [tAct_5 e]
    exact u41 (h.2.2.2.2.2.2.2 _ (l11a e))
  · rw [tAct_6 e]
    exact rInv_of (fr := cn X 37) (ob := cn X 32) b4 b16 e37 e32 (rI_36 h (h41 _ (l11b (by omega) (by omega))))
  · rw [tAct_7 e]
    exact rInv_ent hI0 hR rfl ⟨_, l10, s10⟩ (s13 e).1.2 (s13 e).2.2 (h41 _ (l11b (by omega) (by omega)))
  · rw [tAct_8 e]
    refine u41 ?_
    split
    · exact h41 _ l10
    · rename_i hc
      exact h.2.2.2.2.2.1 _ (clo (h41 _ (l11b (by omega) (by omega))) hc)
  · rw [tAct_9 e]
    split
    · exact hR
    · exact rInv_of (fr := cn X 37) (ob := cn X 32) b4 b16 e37 e32 (rI_35 h (h41 _ (l11b (by omega) (by omega))))
/-- what the run's parts leave alone -/
abbrev RUN : List Nat := [32, 33, 34, 35, 36, 37, 38, 39, 40, 41, 42, 43]
theorem RUN_19 : ∀ j, j ≤ 19 → j ∉ RUN := by
  intro j hj hm
  simp at hm
  omega
theorem tAct_tsm {X : zSt} {i : Nat} : tsm RUN X (tAct X i) := by
  have u1 : ∀ {Y : zSt} {k : Nat} {f : Nat → Int32}, k ∈ RUN → tsm RUN Y (va_up Y k f) := fun hk => tsm_up hk
  unfold tAct
  split
  · unfold tMake
    split
    · exact tsm_rf
    · unfold tMk1
      exact tsm_tr (tsm_tr (tsm_tr (tsm_tr (u1 (by decide)) (u1 (by decide))) (zit_tsm (fun k Y => tsm_up (by decide)) _ _)) (u1 (by decide))) (u1 (by decide))
  · exact u1 (by decide)
  · exact u1 (by decide)
  · split
    · exact u1 (by decide)
    · exact tsm_rf
  · exact u1 (by decide)
  · exact u1 (by decide)
  · exact u1 (by decide)
  · have k2 : ∀ (q m c : Int32), tsm RUN X (tEn2 X i (6 * (cn X 37 - 1)) q m c) := by
      intro q m c
      unfold tEn2
      exact tsm_tr (tsm_tr (tsm_tr (tsm_tr (tsm_w tOpen_tsm (by decide)) (u1 (by decide))) (tsm_up (by decide))) (tsm_up (by decide))) (tsm_up (by decide))
    unfold tEnt tEn1
    split
    · exact tsm_rf
    · split
      · exact tsm_rf
      · split
        · exact tsm_rf
        · split
          · exact k2 _ _ _
          · exact k2 _ _ _
  · exact u1 (by decide)
  · split
    · exact tsm_rf
    · exact u1 (by decide)
theorem tLeave_tsm {X : zSt} : tsm RUN X (tLeave X) := by
  unfold tLeave
  split
  · exact tsm_rf
  · exact tsm_tr (tsm_up (by decide)) (tsm_up (k := 41) (by decide))
