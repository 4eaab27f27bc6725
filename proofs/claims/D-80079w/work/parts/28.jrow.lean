/-! rows of the JDK's natives; small facts of pictures -/
theorem zne {h : zPH} {q x : Nat} {e : va_E} (hq : h q = none) (hx : h x = some e) : q ≠ x := fun z => by rw [z, hx] at hq; cases hq
theorem zne_e {h : zPH} {x y : Nat} {e f : va_E} (hx : h x = some e) (hy : h y = some f) (n : e ≠ f) : x ≠ y := fun z => by rw [z, hy] at hx; exact n (Option.some.inj hx).symm
theorem zob_ne {ci cj : Nat} {fs gs : List Value} (n : ci ≠ cj) : zob ci fs ≠ zob cj gs := fun z => n (by cases z; rfl)
theorem zoa_ne {ci : Nat} {fs : List Value} {x : ClassId × vp_A} : (zob ci fs : va_E) ≠ .inl x := fun z => by cases z
theorem zao_ne {ci : Nat} {fs : List Value} {x : ClassId × vp_A} : (.inl x : va_E) ≠ zob ci fs := fun z => by cases z
section ZJ
variable {C : zC} {k n pc : Nat} {L : zL} {st : List Value} {h : zPH}
theorem z_getC {a N : Nat} {f : Nat → Option Nat} {idx : Nat} (w1 : Cond.methodLink C.own idx ⟨"java/lang/Object", "getClass", "()Ljava/lang/Class;"⟩ ∈ zT) (he : h a = some (zeO C.E N f)) (hd : decode C.cc pc = .ok (.invokevirtual idx, 3)) (hf : 1 ≤ C.R.frames) (hlo : (st.map fun v => v.category).sum + 14 ≤ C.R.locals) (kk : zG C k n (pc + 3) L (.ref (zmi C.E) :: st) h) : zG C k n pc L (.ref a :: st) h := by
  intro p e s m args below meth c H locs ls F S P X hl
  obtain ⟨q0, hq⟩ := zws_at P he
  have K := F.2.2.2.2.2.2.2.2.1
  have hcell : H[a]? = some (vp_cell (zO C.E) (N, .inr (.inr (.inr (.inr f))))) := zws_P (n := H.size) P q0 _ hq
  refine va_getC (C := "[Ljava/lang/Object;") F.1 F.2.1 (by rw [F.2.2.1]; exact hl.1.1.symm) F.2.2.2.2.2.1 (zKK_w K args _ w1) (zKK_w K args _ k_1149) (zKK_w K args _ k_1148) (zKK_w K args _ k_186) (zKK_w K args _ k_199) K.2.2.2.2.2.1 ⟨_, hcell, rfl, ?_⟩ hf hlo hd (kk p e s m args below meth c H locs ls F S P X hl)
  exact va_nmO (K.2.1.2 1 _ rfl).2 (by decide +kernel)
theorem z_ldcM {idx : Nat} (w1 : Cond.classLink C.own idx "[Ljava/lang/Object;" ∈ zT) (hd : decode C.cc pc = .ok (.ldc idx, 2)) (kk : zG C k n (pc + 2) L (.ref (zmi C.E) :: st) h) : zG C k n pc L st h := by
  intro p e s m args below meth c H locs ls F S P X hl
  have K := F.2.2.2.2.2.2.2.2.1
  exact va_ldcM F.1 F.2.1 F.2.2.2.2.2.1 (zKK_w K args _ w1) K.2.2.2.2.2.1 hd (kk p e s m args below meth c H locs ls F S P X hl)
/-- an element may lie in an Object[] -/
def zel (h : zPH) (y : Nat) : Prop := ∃ (ci : Nat) (fs : List Value) (r : vw_C), h y = some (zob ci fs) ∧ zcl[ci]? = some r ∧ Cond.castable r.1 "java/lang/Object" ∈ zT
theorem z_copy {a0 a N0 N1 idx m0 : Nat} {f g : Nat → Option Nat} (w1 : Cond.methodLink C.own idx arraycopyName ∈ zT) (h0 : h a0 = some (zeO C.E N0 f)) (h1 : h a = some (zeO C.E N1 g)) (b0 : m0 ≤ N0) (b1 : m0 ≤ N1) (bN : N0 < 2 ^ 31) (hel : ∀ i, i < m0 → ∀ y, f i = some y → zel h y) (hd : decode C.cc pc = .ok (.invokestatic idx, 3)) (hf : 1 ≤ C.R.frames) (hlo : (st.map fun v => v.category).sum + (nativeFrameWords "java/lang/System" "arraycopy" 5 + 11) ≤ C.R.locals)
    (kk : zG C k n (pc + 3) L st (zpu h a (zeO C.E N1 (va_cpy f g 0 0 m0)))) : zG C k n pc L (.int (nI m0) :: .int (nI 0) :: .ref a :: .int (nI 0) :: .ref a0 :: st) h := by
  intro p e s m args below meth c H locs ls F S P X hl
  obtain ⟨q0, hq0⟩ := zws_at P h0
  obtain ⟨q1, hq1⟩ := zws_at P h1
  have K := F.2.2.2.2.2.2.2.2.1
  have ha : zA C.h0 C.sz a := X a (by rw [h1]; rfl)
  have z0 : (nI 0).toNatClampNeg = 0 := nI_clamp (by decide)
  have zm : (nI m0).toNatClampNeg = m0 := nI_clamp (by omega)
  refine va_copyM F.1 F.2.1 (by rw [F.2.2.1]; exact hl.1.1.symm) F.2.2.2.2.2.1 (zKK_w K args _ w1) (zKK_w K args _ k_211) (zKK_w K args _ k_210) (zKK_w K args _ k_70) K.2.1 (zws_P (n := H.size) P) (zws_D (n := H.size) X) S q0 q1 1 1 (E0 := "java/lang/Object") (E1 := "java/lang/Object") hq0 hq1 rfl rfl (nI_pos (by decide)) (nI_pos (by decide)) (nI_pos (by omega)) (by rw [z0, zm]; omega) (by rw [z0, zm]; omega) ?_ hf hlo hd (fun H1 locs1 hP hD hS => ?_)
  · intro i hi y hy
    rw [zm] at hi
    rw [z0, Nat.zero_add] at hy
    obtain ⟨ci, fs, r, e1, e2, e3⟩ := hel i hi y hy
    exact zany K P e1 e2 e3
  · rw [z0, zm] at hP
    exact kk p e s m args below meth c H1 locs1 ls F hS (zws_set P hq1 hP) (zex_pu X ha) hl
end ZJ
