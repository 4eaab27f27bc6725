/-! the frame rule: a contract over a part of the picture -/
def zov (h' h1 h : zPH) : zPH := fun q => if (h' q).isSome = true then h' q else if (h1 q).isSome = true then none else h q
theorem zA_le {h1 h : zPH} {sz : Nat} (hh : zle h1 h) : ∀ q, zA h1 sz q → zA h sz q := by
  intro q hq
  rcases hq with hq | hq
  · obtain ⟨e, he⟩ := Option.isSome_iff_exists.mp hq
    exact Or.inl (by rw [hh q e he]; rfl)
  · exact Or.inr hq
theorem zKK_le {E : zE} {h1 h : zPH} {sz : Nat} {U : State} (hh : zle h1 h) (K : zKK E (zA h sz) U) : zKK E (zA h1 sz) U := by
  obtain ⟨k1, k2, k3, k4, k5, k6⟩ := K
  exact ⟨k1, k2, k3, k4.narrow (zA_le hh), k5.narrow (zA_le hh), k6⟩
theorem zM_fr {l : Launch} {E : zE} {y : MethodName} {cc : ByteArray} {nL : Nat} {ret : Option FieldType} {R : Room} {av : List Value} {h1 h : zPH} {Po : Option Value → zPH → Prop} (hM : zM l E y cc nL ret R av h1 Po) (hh : zle h1 h) : zM l E y cc nL ret R av h (fun v h2 => ∃ h', Po v h' ∧ h2 = zov h' h1 h ∧ ∀ q, (h' q).isSome = true → (h q).isSome = true → (h1 q).isSome = true) := by
  intro sz p e ha hc hk s m args below hf happ hP hK
  obtain ⟨a1, a2, a3, a4⟩ := hP
  obtain ⟨n, o, g1, g2, g3, ⟨⟨v, h', q1, q2, q3, q4⟩, q5⟩, L, g5, g6⟩ := hM sz p e ha hc hk s m args below hf happ ⟨a1, a2, zhl_le hh a3, zKK_le hh a4⟩ hK
  refine ⟨n, o, g1, g2, g3, ⟨⟨v, zov h' h1 h, q1, ⟨h', q2, rfl, ?_⟩, ?_, ?_⟩, q5.1, fun q z1 z2 => q5.2 q z1 (fun z3 => z2 (zA_le hh q z3))⟩, L, g5, fun q hq => zA_le hh _ (g6 q hq)⟩
  · intro q z1 z2
    rcases q4 q z1 with z3 | z3
    · exact z3
    · have := zhl_lt a3 z2
      omega
  · intro q e' he'
    unfold zov at he'
    by_cases c1 : (h' q).isSome = true
    · rw [if_pos c1] at he'
      exact q3 q e' he'
    · rw [if_neg c1] at he'
      by_cases c2 : (h1 q).isSome = true
      · rw [if_pos c2] at he'; cases he'
      · rw [if_neg c2] at he'
        have hlt : q < s.heap.size := zhl_lt a3 (by rw [he']; rfl)
        refine (a3 q e' he').kept (q5.2 q hlt (fun z => ?_))
        rcases z with z | z
        · exact c2 z
        · omega
  · intro q hq
    unfold zov at hq
    by_cases c1 : (h' q).isSome = true
    · exact zA_le hh q (q4 q c1)
    · rw [if_neg c1] at hq
      by_cases c2 : (h1 q).isSome = true
      · rw [if_pos c2] at hq; cases hq
      · rw [if_neg c2] at hq
        exact Or.inl hq
/-- two pictures side by side -/
def zun (h1 h2 : zPH) : zPH := fun q => if (h1 q).isSome = true then h1 q else h2 q
def zdj (h1 h2 : zPH) : Prop := ∀ q, (h1 q).isSome = true → h2 q = none
theorem zun_le1 {h1 h2 : zPH} : zle h1 (zun h1 h2) := by
  intro q e he
  unfold zun
  rw [if_pos (by rw [he]; rfl)]
  exact he
theorem zun_le2 {h1 h2 : zPH} (hd : zdj h1 h2) : zle h2 (zun h1 h2) := by
  intro q e he
  unfold zun
  by_cases c : (h1 q).isSome = true
  · rw [hd q c] at he; cases he
  · rw [if_neg c]; exact he
theorem zov_un1 {h' h1 h2 : zPH} (hd : zdj h1 h2) : zov h' h1 (zun h1 h2) = zun h' h2 := by
  funext q
  unfold zov zun
  by_cases c : (h' q).isSome = true
  · rw [if_pos c, if_pos c]
  · rw [if_neg c, if_neg c]
    by_cases c2 : (h1 q).isSome = true
    · rw [if_pos c2, hd q c2]
    · rw [if_neg c2, if_neg c2]
theorem zov_un2 {h' h1 h2 : zPH} (hd : zdj h1 h2) (hd' : zdj h1 h') : zov h' h2 (zun h1 h2) = zun h1 h' := by
  funext q
  unfold zov zun
  by_cases c : (h' q).isSome = true
  · rw [if_pos c]
    by_cases c2 : (h1 q).isSome = true
    · rw [hd' q c2] at c; cases c
    · rw [if_neg c2]
  · rw [if_neg c]
    by_cases c2 : (h1 q).isSome = true
    · rw [if_pos c2, hd q c2, if_neg (by simp), if_pos c2]
    · rw [if_neg c2, if_neg c2]
      cases hx : h2 q with
      | none => simp; cases hy : h' q with | none => rfl | some z => rw [hy] at c; simp at c
      | some z => simp; cases hy : h' q with | none => rfl | some z => rw [hy] at c; simp at c
theorem zpm_new {ι : Type} {dm dm' : ι → Prop} {A A' : ι → Nat} {ct ct' : ι → va_E} {r : ι} {q : Nat} {e : va_E} (hA : zinj dm A) (hq : zpm dm A ct q = none) (hr : ¬ dm r) (hd : ∀ i, dm' i ↔ (dm i ∨ i = r)) (h1 : ∀ j, dm j → A' j = A j ∧ ct' j = ct j) (h2 : A' r = q ∧ ct' r = e) : zpu (zpm dm A ct) q e = zpm dm' A' ct' ∧ zinj dm' A' := by
  have hfr : ∀ j, dm j → A j ≠ q := by
    intro j hj z
    rw [← z, zpm_at hA hj] at hq
    cases hq
  have hi : zinj dm' A' := by
    intro i j di dj e1
    rcases (hd i).mp di with hi | hi <;> rcases (hd j).mp dj with hj | hj
    · rw [(h1 i hi).1, (h1 j hj).1] at e1
      exact hA i j hi hj e1
    · rw [(h1 i hi).1, hj, h2.1] at e1
      exact absurd e1 (hfr i hi)
    · rw [hi, h2.1, (h1 j hj).1] at e1
      exact absurd e1.symm (hfr j hj)
    · rw [hi, hj]
  refine ⟨?_, hi⟩
  funext a
  by_cases ha : a = q
  · subst ha
    rw [zpu_s]
    have := zpm_at (ct := ct') hi ((hd r).mpr (Or.inr rfl))
    rw [h2.1, h2.2] at this
    exact this.symm
  · rw [zpu_n ha]
    by_cases hx : ∃ j, dm j ∧ A j = a
    · obtain ⟨j, hj, rfl⟩ := hx
      rw [zpm_at hA hj]
      have := zpm_at (ct := ct') hi ((hd j).mpr (Or.inl hj))
      rw [(h1 j hj).1, (h1 j hj).2] at this
      exact this.symm
    · rw [zpm_no (fun j hj z => hx ⟨j, hj, z⟩)]
      refine (zpm_no (fun j hj z => ?_)).symm
      rcases (hd j).mp hj with w | w
      · rw [(h1 j w).1] at z
        exact hx ⟨j, w, z⟩
      · rw [w, h2.1] at z
        exact ha z.symm
