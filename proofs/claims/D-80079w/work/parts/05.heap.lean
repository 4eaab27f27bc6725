/-! rows that read and write the picture; ends; contracts; calls -/
abbrev zeI (E : zE) (N : Nat) (f : Nat → Int32) : va_E := .inl (zI E, N, .inl f)
abbrev zeO (E : zE) (N : Nat) (f : Nat → Option Nat) : va_E := .inl (zO E, N, .inr (.inr (.inr (.inr f))))
abbrev zeT (E : zE) (N : Nat) (f : Nat → Option Nat) : va_E := .inl (zTh E, N, .inr (.inr (.inr (.inr f))))
abbrev zob (ci : Nat) (fs : List Value) : va_E := .inr (ci, fs)
def zlk (own : String) (idx : Nat) (T : u_T) (j : Nat) : Prop := (∃ ref : String, Cond.fieldLink own idx ref (T j).2.1 (T j).2.2.1 ∈ zT ∧ (ref = (T j).1 ∨ Cond.sameField ref (T j).1 (T j).2.1 (T j).2.2.1 ∈ zT)) ∨ ∃ host : String, Cond.fieldLinkNest own idx (T j).1 (T j).2.1 (T j).2.2.1 host ∈ zT
def zFA (own : String) (idx ci j : Nat) : Prop := ∃ (Cn : String) (T : u_T) (N : Nat), zcl[ci]? = some (Cn, T, N) ∧ j < N ∧ (∀ w ∈ u_ws Cn T N, w ∈ zT) ∧ zlk own idx T j
def zFP (own : String) (idx ci j : Nat) (ty : FieldType) (fin : Bool) : Prop := ∃ (Cn : String) (T : u_T) (N : Nat) (ty0 : Nat → FieldType), zcl[ci]? = some (Cn, T, N) ∧ j < N ∧ (∀ w ∈ u_ws Cn T N, w ∈ zT) ∧ zlk own idx T j ∧ (∀ k, k < N → parseFieldDescriptor (T k).2.2.1 = some (ty0 k)) ∧ (∀ a, a < N → ∀ b, b < N → a ≠ b → (T a).2.1 ≠ (T b).2.1) ∧ ty0 j = ty ∧ (T j).2.2.2 = fin ∧ (fin = true → (T j).1 = own ∧ Cond.fieldLink own idx (T j).1 (T j).2.1 (T j).2.2.1 ∈ zT)
theorem zsame {E : zE} {A : Nat → Prop} {s : State} (K : zKK E A s) {ref o nm d : String} (h : ref = o ∨ Cond.sameField ref o nm d ∈ zT) : ∀ x, s.fieldFound? o nm d = some x → s.fieldFound? ref nm d = some x := by
  rcases h with rfl | h
  · exact fun _ z => z
  · exact fun x hx => u_same (zKK_w K #[] _ h) x hx
section ZH
variable {C : zC} {k n pc : Nat} {L : zL} {st : List Value} {h : zPH}
theorem zFX_A {p : Program} {s : State} {m : MethodId} {meth : Method} {c : Code} (F : zFX C p s m meth c) : ∀ q, s.heap.size ≤ q → zA C.h0 C.sz q := fun q hq => Or.inr (by rw [← F.2.2.2.2.2.2.2.1]; exact hq)
theorem z_get {idx ci j a : Nat} {fs : List Value} {v : Value} (fa : zFA C.own idx ci j) (hd : decode C.cc pc = .ok (.getfield idx, 3)) (he : h a = some (zob ci fs)) (hv : fs[j]? = some v) (kk : zG C k n (pc + 3) L (v :: st) h) : zG C k n pc L (.ref a :: st) h := by
  intro p e s m args below meth c H locs ls F S P X hl
  obtain ⟨Cn, T, N, hc, hj, hu, hlk⟩ := fa
  obtain ⟨q0, hq⟩ := zws_at P he
  have K := F.2.2.2.2.2.2.2.2.1
  rcases hlk with ⟨ref, h1, h2⟩ | ⟨host, h1⟩
  · exact va_get F.1 F.2.1 (zKK_w K args) hu F.2.2.2.2.2.1 K.2.1 (zws_P P) q0 hq hc j hj (zKK_w K args _ h1) (zsame K h2) hv hd (kk p e s m args below meth c H locs ls F S P X hl)
  · exact va_getN F.1 F.2.1 (zKK_w K args) hu F.2.2.2.2.2.1 K.2.1 (zws_P P) q0 hq hc j hj (zKK_w K args _ h1) (fun _ z => z) hv hd (kk p e s m args below meth c H locs ls F S P X hl)
theorem z_put {idx ci j a : Nat} {ty : FieldType} {fs : List Value} {v : Value} (fp : zFP C.own idx ci j ty false) (hd : decode C.cc pc = .ok (.putfield idx, 3)) (he : h a = some (zob ci fs)) (hn : narrow ty v = v) (hf : fits ty v = true) (hl0 : j < fs.length) (kk : zG C k n (pc + 3) L st (zpu h a (zob ci (fs.set j v)))) : zG C k n pc L (v :: .ref a :: st) h := by
  intro p e s m args below meth c H locs ls F S P X hl
  obtain ⟨Cn, T, N, ty0, hc, hj, hu, hlk, hty, hnm, ht, hfin, -⟩ := fp
  obtain ⟨q0, hq⟩ := zws_at P he
  have K := F.2.2.2.2.2.2.2.2.1
  have hpd : parseFieldDescriptor (T j).2.2.1 = some ty := by rw [hty j hj, ht]
  have ha : zA C.h0 C.sz a := X a (by rw [he]; rfl)
  rcases hlk with ⟨ref, h1, h2⟩ | ⟨host, h1⟩
  · exact va_put F.1 F.2.1 (zKK_w K args) hu ty0 hty hnm F.2.2.2.2.2.1 K.2.1 (zws_P P) (zws_D X) S q0 hq hc j hj (zKK_w K args _ h1) (zsame K h2) hfin hpd hn hf hl0 hd (fun H1 locs1 hP hD hS => kk p e s m args below meth c H1 locs1 ls F hS (zws_set P hq hP) (zex_pu X ha) hl)
  · exact va_putN F.1 F.2.1 (zKK_w K args) hu ty0 hty hnm F.2.2.2.2.2.1 K.2.1 (zws_P P) (zws_D X) S q0 hq hc j hj (zKK_w K args _ h1) (fun _ z => z) hfin hpd hn hf hl0 hd (fun H1 locs1 hP hD hS => kk p e s m args below meth c H1 locs1 ls F hS (zws_set P hq hP) (zex_pu X ha) hl)
theorem z_putF {idx ci j a : Nat} {ty : FieldType} {fs : List Value} {v : Value} (fp : zFP C.own idx ci j ty true) (hi : C.ini = true) (hd : decode C.cc pc = .ok (.putfield idx, 3)) (he : h a = some (zob ci fs)) (hn : narrow ty v = v) (hf : fits ty v = true) (hl0 : j < fs.length) (kk : zG C k n (pc + 3) L st (zpu h a (zob ci (fs.set j v)))) : zG C k n pc L (v :: .ref a :: st) h := by
  intro p e s m args below meth c H locs ls F S P X hl
  obtain ⟨Cn, T, N, ty0, hc, hj, hu, -, hty, hnm, ht, hfin, hown⟩ := fp
  obtain ⟨q0, hq⟩ := zws_at P he
  obtain ⟨o1, o2⟩ := hown rfl
  have K := F.2.2.2.2.2.2.2.2.1
  have hpd : parseFieldDescriptor (T j).2.2.1 = some ty := by rw [hty j hj, ht]
  have ha : zA C.h0 C.sz a := X a (by rw [he]; rfl)
  exact va_putF F.1 F.2.1 (zKK_w K args) hu ty0 hty hnm F.2.2.2.2.2.1 K.2.1 (zws_P P) (zws_D X) S q0 hq hc j hj (zKK_w K args _ o2) (fun _ z => z) hfin (F.2.2.2.2.2.2.1 hi) o1 hpd hn hf hl0 hd (fun H1 locs1 hP hD hS => kk p e s m args below meth c H1 locs1 ls F hS (zws_set P hq hP) (zex_pu X ha) hl)
theorem z_iald {a N : Nat} {f : Nat → Int32} {x : Int32} (j : Nat) (hd : decode C.cc pc = .ok (.iaload, 1)) (he : h a = some (zeI C.E N f)) (hx : x = nI j) (hj : j < N) (hN : N < 2 ^ 31) (kk : zG C k n (pc + 1) L (.int (f j) :: st) h) : zG C k n pc L (.int x :: .ref a :: st) h := by
  subst hx
  intro p e s m args below meth c H locs ls F S P X hl
  obtain ⟨q0, hq⟩ := zws_at P he
  have K := F.2.2.2.2.2.2.2.2.1
  have e1 : (nI j).toNatClampNeg = j := nI_clamp (by omega)
  refine va_iald F.1 F.2.1 K.2.1 (zws_P P) q0 0 hq rfl (vp_in_nI hj hN) hd ?_
  rw [e1]
  exact kk p e s m args below meth c H locs ls F S P X hl
theorem z_iast {a N : Nat} {f : Nat → Int32} {x y : Int32} (j : Nat) (hd : decode C.cc pc = .ok (.iastore, 1)) (he : h a = some (zeI C.E N f)) (hx : x = nI j) (hj : j < N) (hN : N < 2 ^ 31) (kk : zG C k n (pc + 1) L st (zpu h a (zeI C.E N (upd f j y)))) : zG C k n pc L (.int y :: .int x :: .ref a :: st) h := by
  subst hx
  intro p e s m args below meth c H locs ls F S P X hl
  obtain ⟨q0, hq⟩ := zws_at P he
  have K := F.2.2.2.2.2.2.2.2.1
  have ha : zA C.h0 C.sz a := X a (by rw [he]; rfl)
  have e1 : (nI j).toNatClampNeg = j := nI_clamp (by omega)
  refine va_iast F.1 F.2.1 K.2.1 (zws_P P) (zws_D X) S q0 0 hq rfl (vp_in_nI hj hN) hd (fun H1 locs1 hP hD hS => ?_)
  rw [e1] at hP
  exact kk p e s m args below meth c H1 locs1 ls F hS (zws_set P hq hP) (zex_pu X ha) hl
theorem z_alenI {a N : Nat} {f : Nat → Int32} (hd : decode C.cc pc = .ok (.arraylength, 1)) (he : h a = some (zeI C.E N f)) (kk : zG C k n (pc + 1) L (.int (nI N) :: st) h) : zG C k n pc L (.ref a :: st) h := by
  intro p e s m args below meth c H locs ls F S P X hl
  obtain ⟨q0, hq⟩ := zws_at P he
  have K := F.2.2.2.2.2.2.2.2.1
  exact va_alen F.1 F.2.1 K.2.1 (zws_P P) q0 0 hq (ty := .int) rfl rfl hd (kk p e s m args below meth c H locs ls F S P X hl)
theorem z_alenO {a N : Nat} {f : Nat → Option Nat} (hd : decode C.cc pc = .ok (.arraylength, 1)) (he : h a = some (zeO C.E N f)) (kk : zG C k n (pc + 1) L (.int (nI N) :: st) h) : zG C k n pc L (.ref a :: st) h := by
  intro p e s m args below meth c H locs ls F S P X hl
  obtain ⟨q0, hq⟩ := zws_at P he
  have K := F.2.2.2.2.2.2.2.2.1
  exact va_alen F.1 F.2.1 K.2.1 (zws_P P) q0 1 hq (ty := .object "java/lang/Object") rfl rfl hd (kk p e s m args below meth c H locs ls F S P X hl)
/-- the shared empty array's length -/
theorem z_alen0 (hd : decode C.cc pc = .ok (.arraylength, 1)) (kk : zG C k n (pc + 1) L (.int 0 :: st) h) : zG C k n pc L (.ref (zt0 C.E) :: st) h := by
  intro p e s m args below meth c H locs ls F S P X hl
  have K := F.2.2.2.2.2.2.2.2.1
  obtain ⟨cell, h1, h2, h3, -, h5, -, h7⟩ := K.2.2.2.2.1
  exact W.alen (n := 0) F.1 F.2.1 (by rw [S.2.1 _ (Array.getElem?_eq_some_iff.mp h1).1 h7]; exact h1) h2 h5 rfl rfl hd (kk p e s m args below meth c H locs ls F S P X hl)
theorem z_gets0 (hw : Cond.fieldLink C.own 39 "java/util/ArrayList" "DEFAULTCAPACITY_EMPTY_ELEMENTDATA" "[Ljava/lang/Object;" ∈ zT) (hd : decode C.cc pc = .ok (.getstatic 39, 3)) (kk : zG C k n (pc + 3) L (.ref (zt0 C.E) :: st) h) : zG C k n pc L st h := by
  intro p e s m args below meth c H locs ls F S P X hl
  have K := F.2.2.2.2.2.2.2.2.1
  exact va_gets F.1 F.2.1 K.2.2.2.1 S F.2.2.2.2.2.1 (zKK_w K args _ hw) (fun _ z => z) hd (kk p e s m args below meth c H locs ls F S P X hl)
theorem z_aaldO {a N : Nat} {f : Nat → Option Nat} {x : Int32} (j : Nat) (hd : decode C.cc pc = .ok (.aaload, 1)) (he : h a = some (zeO C.E N f)) (hx : x = nI j) (hj : j < N) (hN : N < 2 ^ 31) (kk : zG C k n (pc + 1) L (va_rf (f j) :: st) h) : zG C k n pc L (.int x :: .ref a :: st) h := by
  subst hx
  intro p e s m args below meth c H locs ls F S P X hl
  obtain ⟨q0, hq⟩ := zws_at P he
  have K := F.2.2.2.2.2.2.2.2.1
  have e1 : (nI j).toNatClampNeg = j := nI_clamp (by omega)
  refine va_aldq F.1 F.2.1 K.2.1 (zws_P P) q0 1 hq (C := "java/lang/Object") rfl (vp_in_nI hj hN) hd ?_
  rw [e1]
  exact kk p e s m args below meth c H locs ls F S P X hl
theorem z_aaldT {a N : Nat} {f : Nat → Option Nat} {x : Int32} (j : Nat) (hd : decode C.cc pc = .ok (.aaload, 1)) (he : h a = some (zeT C.E N f)) (hx : x = nI j) (hj : j < N) (hN : N < 2 ^ 31) (kk : zG C k n (pc + 1) L (va_rf (f j) :: st) h) : zG C k n pc L (.int x :: .ref a :: st) h := by
  subst hx
  intro p e s m args below meth c H locs ls F S P X hl
  obtain ⟨q0, hq⟩ := zws_at P he
  have K := F.2.2.2.2.2.2.2.2.1
  have e1 : (nI j).toNatClampNeg = j := nI_clamp (by omega)
  refine va_aldq F.1 F.2.1 K.2.1 (zws_P P) q0 2 hq (C := "PointsToRounds$Thing") rfl (vp_in_nI hj hN) hd ?_
  rw [e1]
  exact kk p e s m args below meth c H locs ls F S P X hl
/-- an object of the picture may lie in an array of nm -/
theorem zany {E : zE} {A : Nat → Prop} {s : State} {H : Heap} (K : zKK E A s) (P : zhl E h H) {v ci : Nat} {fs : List Value} {r : vw_C} {nm : String} (hv : h v = some (zob ci fs)) (hr : zcl[ci]? = some r) (hw : Cond.castable r.1 nm ∈ zT) : va_Any nm s H v := by
  obtain ⟨q0, hq⟩ := zws_at P hv
  refine va_rAny K.2.1 (zws_P P) hq hr (fun comp c0 h1 h2 => ?_)
  obtain ⟨c1, t1, f1, f2, f3⟩ := Cond.castable_spec (zKK_w K #[] _ hw)
  cases h2.symm.trans f1
  cases h1.symm.trans f2
  exact f3
theorem z_aastO {a N v ci : Nat} {f : Nat → Option Nat} {fs : List Value} {r : vw_C} {x : Int32} (j : Nat) (hd : decode C.cc pc = .ok (.aastore, 1)) (he : h a = some (zeO C.E N f)) (hv : h v = some (zob ci fs)) (hr : zcl[ci]? = some r) (hw : Cond.castable r.1 "java/lang/Object" ∈ zT) (hx : x = nI j) (hj : j < N) (hN : N < 2 ^ 31) (kk : zG C k n (pc + 1) L st (zpu h a (zeO C.E N (va_up f j (some v))))) : zG C k n pc L (.ref v :: .int x :: .ref a :: st) h := by
  subst hx
  intro p e s m args below meth c H locs ls F S P X hl
  obtain ⟨q0, hq⟩ := zws_at P he
  have K := F.2.2.2.2.2.2.2.2.1
  have ha : zA C.h0 C.sz a := X a (by rw [he]; rfl)
  have e1 : (nI j).toNatClampNeg = j := nI_clamp (by omega)
  refine va_astqM F.1 F.2.1 K.2.1 (zws_P P) (zws_D X) S q0 1 hq (E := "java/lang/Object") rfl (zany K P hv hr hw) (vp_in_nI hj hN) hd (fun H1 locs1 hP hD hS => ?_)
  rw [e1] at hP
  exact kk p e s m args below meth c H1 locs1 ls F hS (zws_set P hq hP) (zex_pu X ha) hl
theorem z_aastT {a N v ci : Nat} {f : Nat → Option Nat} {fs : List Value} {r : vw_C} {x : Int32} (j : Nat) (hd : decode C.cc pc = .ok (.aastore, 1)) (he : h a = some (zeT C.E N f)) (hv : h v = some (zob ci fs)) (hr : zcl[ci]? = some r) (hw : Cond.castable r.1 "PointsToRounds$Thing" ∈ zT) (hx : x = nI j) (hj : j < N) (hN : N < 2 ^ 31) (kk : zG C k n (pc + 1) L st (zpu h a (zeT C.E N (va_up f j (some v))))) : zG C k n pc L (.ref v :: .int x :: .ref a :: st) h := by
  subst hx
  intro p e s m args below meth c H locs ls F S P X hl
  obtain ⟨q0, hq⟩ := zws_at P he
  have K := F.2.2.2.2.2.2.2.2.1
  have ha : zA C.h0 C.sz a := X a (by rw [he]; rfl)
  have e1 : (nI j).toNatClampNeg = j := nI_clamp (by omega)
  refine va_astqM F.1 F.2.1 K.2.1 (zws_P P) (zws_D X) S q0 2 hq (E := "PointsToRounds$Thing") rfl (zany K P hv hr hw) (vp_in_nI hj hN) hd (fun H1 locs1 hP hD hS => ?_)
  rw [e1] at hP
  exact kk p e s m args below meth c H1 locs1 ls F hS (zws_set P hq hP) (zex_pu X ha) hl
theorem z_aastON {a N : Nat} {f : Nat → Option Nat} {x : Int32} (j : Nat) (hd : decode C.cc pc = .ok (.aastore, 1)) (he : h a = some (zeO C.E N f)) (hx : x = nI j) (hj : j < N) (hN : N < 2 ^ 31) (kk : zG C k n (pc + 1) L st (zpu h a (zeO C.E N (va_up f j none)))) : zG C k n pc L (.null :: .int x :: .ref a :: st) h := by
  subst hx
  intro p e s m args below meth c H locs ls F S P X hl
  obtain ⟨q0, hq⟩ := zws_at P he
  have K := F.2.2.2.2.2.2.2.2.1
  have ha : zA C.h0 C.sz a := X a (by rw [he]; rfl)
  have e1 : (nI j).toNatClampNeg = j := nI_clamp (by omega)
  refine va_astqN F.1 F.2.1 K.2.1 (zws_P P) (zws_D X) S q0 1 hq (C := "java/lang/Object") rfl (vp_in_nI hj hN) hd (fun H1 locs1 hP hD hS => ?_)
  rw [e1] at hP
  exact kk p e s m args below meth c H1 locs1 ls F hS (zws_set P hq hP) (zex_pu X ha) hl
theorem z_aastTN {a N : Nat} {f : Nat → Option Nat} {x : Int32} (j : Nat) (hd : decode C.cc pc = .ok (.aastore, 1)) (he : h a = some (zeT C.E N f)) (hx : x = nI j) (hj : j < N) (hN : N < 2 ^ 31) (kk : zG C k n (pc + 1) L st (zpu h a (zeT C.E N (va_up f j none)))) : zG C k n pc L (.null :: .int x :: .ref a :: st) h := by
  subst hx
  intro p e s m args below meth c H locs ls F S P X hl
  obtain ⟨q0, hq⟩ := zws_at P he
  have K := F.2.2.2.2.2.2.2.2.1
  have ha : zA C.h0 C.sz a := X a (by rw [he]; rfl)
  have e1 : (nI j).toNatClampNeg = j := nI_clamp (by omega)
  refine va_astqN F.1 F.2.1 K.2.1 (zws_P P) (zws_D X) S q0 2 hq (C := "PointsToRounds$Thing") rfl (vp_in_nI hj hN) hd (fun H1 locs1 hP hD hS => ?_)
  rw [e1] at hP
  exact kk p e s m args below meth c H1 locs1 ls F hS (zws_set P hq hP) (zex_pu X ha) hl
/-- new cells -/
def zNW (own : String) (idx ci N : Nat) (fs : List Value) : Prop := ∃ (Cn : String) (T : u_T) (ty : Nat → FieldType), zcl[ci]? = some (Cn, T, N) ∧ (∀ w ∈ u_ws Cn T N, w ∈ zT) ∧ (∀ k, k < N → parseFieldDescriptor (T k).2.2.1 = some (ty k)) ∧ Cond.classLink own idx Cn ∈ zT ∧ Cond.instantiable Cn N ∈ zT ∧ Cond.initialized Cn ∈ zT ∧ ∀ j, j < N → defaultValue (ty j) = vp_V fs j
theorem z_new {idx ci N : Nat} {fs : List Value} (nw : zNW C.own idx ci N fs) (hd : decode C.cc pc = .ok (.new idx, 3)) (hc : k + 1 ≤ C.R.cells) (hs : n + N ≤ C.R.slots) (kk : ∀ q : Nat, h q = none → zG C (k + 1) (n + N) (pc + 3) L (.ref q :: st) (zpu h q (zob ci fs))) : zG C k n pc L st h := by
  intro p e s m args below meth c H locs ls F S P X hl
  obtain ⟨Cn, T, ty, hcl, hu, hty, w1, w2, w3, hfs⟩ := nw
  have K := F.2.2.2.2.2.2.2.2.1
  refine va_new F.1 F.2.1 (zKK_w K args) hu ty hty F.2.2.2.2.2.1 (zKK_w K args _ w1) (zKK_w K args _ w2) (zKK_w K args _ w3) K.2.1 (zws_P (n := H.size) P) (zws_D (n := H.size) X) S (zFX_A F) hcl hfs hc hs hd (fun q H1 hP hD hS => ?_)
  obtain ⟨g1, g2⟩ := zws_new P hD
  exact kk q g1 p e s m args below meth c H1 locs ls F hS (zws_push P hP) (zex_pu X g2) hl
theorem z_newI {N : Nat} {x : Int32} (hd : decode C.cc pc = .ok (.newarray .int, 2)) (h0 : ¬ x < 0) (hN : x.toNatClampNeg = N) (hb : N * 4 ≤ 536870912) (hc : k + 1 ≤ C.R.cells) (hs : n + N ≤ C.R.slots) (kk : ∀ q : Nat, h q = none → zG C (k + 1) (n + N) (pc + 2) L (.ref q :: st) (zpu h q (zeI C.E N (fun _ => 0)))) : zG C k n pc L (.int x :: st) h := by
  intro p e s m args below meth c H locs ls F S P X hl
  have K := F.2.2.2.2.2.2.2.2.1
  refine va_newa (ty := .int) (a0 := (N, .inl (fun _ => 0))) F.1 F.2.1 (atype := .int) (show (Cond.arrayClass .int).before args s = true from K.2.2.2.2.2.2.2.2 args) rfl K.2.1 (zws_P (n := H.size) P) (zws_D (n := H.size) X) S (zFX_A F) (fun _ => rfl) h0 hN hb hc hs hd (fun q cA H1 hK hP hD hS => ?_)
  have e1 : cA = zI C.E := Option.some.inj ((va_nm_int (hK.2 3 _ rfl).2).symm.trans (va_nm_int (hK.2 0 _ rfl).2))
  subst e1
  obtain ⟨g1, g2⟩ := zws_new P hD
  exact kk q g1 p e s m args below meth c H1 locs ls F hS (zws_push P hP) (zex_pu X g2) hl
theorem z_newO {idx N : Nat} {x : Int32} (hw : Cond.classLink C.own idx "java/lang/Object" ∈ zT) (hd : decode C.cc pc = .ok (.anewarray idx, 3)) (h0 : ¬ x < 0) (hN : x.toNatClampNeg = N) (hb : N * 4 ≤ 536870912) (hc : k + 1 ≤ C.R.cells) (hs : n + N ≤ C.R.slots) (kk : ∀ q : Nat, h q = none → zG C (k + 1) (n + N) (pc + 3) L (.ref q :: st) (zpu h q (zeO C.E N (fun _ => none)))) : zG C k n pc L (.int x :: st) h := by
  intro p e s m args below meth c H locs ls F S P X hl
  have K := F.2.2.2.2.2.2.2.2.1
  refine va_newq F.1 F.2.1 F.2.2.2.2.2.1 (zKK_w K args _ hw) K.2.2.2.2.2.2.1 K.2.1 (zws_P (n := H.size) P) (zws_D (n := H.size) X) S (zFX_A F) h0 hN hb hc hs hd (fun q cA H1 hK hP hD hS => ?_)
  obtain ⟨_, _, -, -, -, f1⟩ := (hK.2 3 _ rfl).2
  obtain ⟨_, _, -, -, -, f2⟩ := (hK.2 1 _ rfl).2
  have e1 : cA = zO C.E := Option.some.inj (f1.symm.trans f2)
  subst e1
  obtain ⟨g1, g2⟩ := zws_new P hD
  exact kk q g1 p e s m args below meth c H1 locs ls F hS (zws_push P hP) (zex_pu X g2) hl
theorem z_newT {idx N : Nat} {x : Int32} (hw : Cond.classLink C.own idx "PointsToRounds$Thing" ∈ zT) (hd : decode C.cc pc = .ok (.anewarray idx, 3)) (h0 : ¬ x < 0) (hN : x.toNatClampNeg = N) (hb : N * 4 ≤ 536870912) (hc : k + 1 ≤ C.R.cells) (hs : n + N ≤ C.R.slots) (kk : ∀ q : Nat, h q = none → zG C (k + 1) (n + N) (pc + 3) L (.ref q :: st) (zpu h q (zeT C.E N (fun _ => none)))) : zG C k n pc L (.int x :: st) h := by
  intro p e s m args below meth c H locs ls F S P X hl
  have K := F.2.2.2.2.2.2.2.2.1
  refine va_newq F.1 F.2.1 F.2.2.2.2.2.1 (zKK_w K args _ hw) K.2.2.2.2.2.2.2.1 K.2.1 (zws_P (n := H.size) P) (zws_D (n := H.size) X) S (zFX_A F) h0 hN hb hc hs hd (fun q cA H1 hK hP hD hS => ?_)
  obtain ⟨_, _, -, -, -, f1⟩ := (hK.2 3 _ rfl).2
  obtain ⟨_, _, -, -, -, f2⟩ := (hK.2 2 _ rfl).2
  have e1 : cA = zTh C.E := Option.some.inj (f1.symm.trans f2)
  subst e1
  obtain ⟨g1, g2⟩ := zws_new P hD
  exact kk q g1 p e s m args below meth c H1 locs ls F hS (zws_push P hP) (zex_pu X g2) hl
/-- casts -/
theorem z_cast {idx a ci : Nat} {fs : List Value} {r : vw_C} {nm : String} (hr : zcl[ci]? = some r) (w1 : Cond.classLink C.own idx nm ∈ zT) (w2 : Cond.castable r.1 nm ∈ zT) (he : h a = some (zob ci fs)) (hd : decode C.cc pc = .ok (.checkcast idx, 3)) (kk : zG C k n (pc + 3) L (.ref a :: st) h) : zG C k n pc L (.ref a :: st) h := by
  intro p e s m args below meth c H locs ls F S P X hl
  obtain ⟨q0, hq⟩ := zws_at P he
  have K := F.2.2.2.2.2.2.2.2.1
  exact va_castY F.1 F.2.1 F.2.2.2.2.2.1 (zKK_w K args _ w1) (K.1 _ w2) (va_recv K.2.1 (zws_P P) hr hq) hd (kk p e s m args below meth c H locs ls F S P X hl)
theorem z_castN {idx : Nat} (hd : decode C.cc pc = .ok (.checkcast idx, 3)) (kk : zG C k n (pc + 3) L (.null :: st) h) : zG C k n pc L (.null :: st) h := by
  intro p e s m args below meth c H locs ls F S P X hl
  exact lv_castN F.1 F.2.1 hd (kk p e s m args below meth c H locs ls F S P X hl)
/-- Object's constructor -/
theorem z_objInit {idx a : Nat} (w1 : Cond.methodLink C.own idx objectInit ∈ zT) (w2 : Cond.instanceMethod objectInit ∈ zT) (w3 : Cond.code objectInit ⟨#[0xb1]⟩ 1 none ∈ zT) (hd : decode C.cc pc = .ok (.invokespecial idx, 3)) (hf : 1 ≤ C.R.frames) (hc : (st.map fun v => v.category).sum + 12 ≤ C.R.locals) (kk : zG C k n (pc + 3) L st h) : zG C k n pc L (.ref a :: st) h := by
  intro p e s m args below meth c H locs ls F S P X hl
  have K := F.2.2.2.2.2.2.2.2.1
  refine W.objInit (a := a) (rest := st) F.1 F.2.1 F.2.2.2.2.2.1 (zKK_w K args _ w1) (zKK_w K args _ w2) (zKK_w K args _ w3) rfl (by rw [F.2.2.1]; exact hl.1.1) rfl hd hf ?_ ?_
  · show 2 * 0 + _ + 12 ≤ _
    omega
  · exact kk p e s m args below meth c H locs ls F S P X hl
theorem z_max {idx : Nat} {x y : Int32} (w1 : Cond.methodLink C.own idx Lib.Math.max.name ∈ zT) (w2 : Cond.static Lib.Math.max.name ∈ zT) (w3 : Cond.initialized "java/lang/Math" ∈ zT) (w4 : Cond.code Lib.Math.max.name Lib.Math.max.code 2 (some .int) ∈ zT) (hd : decode C.cc pc = .ok (.invokestatic idx, 3)) (hf : 1 ≤ C.R.frames) (hc : (st.map fun v => v.category).sum + 13 ≤ C.R.locals) (hk : k ≤ C.R.cells) (hs : n ≤ C.R.slots) (kk : zG C k n (pc + 3) L (.int (if x < y then y else x) :: st) h) : zG C k n pc L (.int y :: .int x :: st) h := by
  intro p e s m args below meth c H locs ls F S P X hl
  have K := F.2.2.2.2.2.2.2.2.1
  exact va_mmax F.1 F.2.1 (by rw [F.2.2.1]; exact hl.1.1.symm) F.2.2.2.2.2.1 (zKK_w K args _ w1) (zKK_w K args _ w2) (zKK_w K args _ w3) (zKK_w K args _ w4) hf hc hk hs hd (kk p e s m args below meth c H locs ls F S P X hl)
theorem z_min {idx : Nat} {x y : Int32} (w1 : Cond.methodLink C.own idx Lib.Math.min.name ∈ zT) (w2 : Cond.static Lib.Math.min.name ∈ zT) (w3 : Cond.initialized "java/lang/Math" ∈ zT) (w4 : Cond.code Lib.Math.min.name Lib.Math.min.code 2 (some .int) ∈ zT) (hd : decode C.cc pc = .ok (.invokestatic idx, 3)) (hf : 1 ≤ C.R.frames) (hc : (st.map fun v => v.category).sum + 13 ≤ C.R.locals) (hk : k ≤ C.R.cells) (hs : n ≤ C.R.slots) (kk : zG C k n (pc + 3) L (.int (if y < x then y else x) :: st) h) : zG C k n pc L (.int y :: .int x :: st) h := by
  intro p e s m args below meth c H locs ls F S P X hl
  have K := F.2.2.2.2.2.2.2.2.1
  exact va_mmin F.1 F.2.1 (by rw [F.2.2.1]; exact hl.1.1.symm) F.2.2.2.2.2.1 (zKK_w K args _ w1) (zKK_w K args _ w2) (zKK_w K args _ w3) (zKK_w K args _ w4) hf hc hk hs hd (kk p e s m args below meth c H locs ls F S P X hl)
end ZH
section ZX
variable {l : Launch} {E : zE} {cc : ByteArray} {own : String} {nL : Nat} {ret : Option FieldType} {ini : Bool} {R : Room} {h0 : zPH} {sz : Nat} {Po : Option Value → zPH → Prop} {k n pc : Nat} {L : zL} {h : zPH}
theorem z_iret {v : Int32} (hr : ret = some .int) (hd : decode cc pc = .ok (.ireturn, 1)) (hk : k ≤ R.cells) (hn : n ≤ R.slots) (hp : Po (some (.int v)) h) : zG (zcx l E cc own nL ret ini R h0 sz Po) k n pc L [.int v] h := by
  intro p e s m args below meth c H locs ls F S P X hl
  exact W.widen hk hn (W.iret F.1 F.2.1 (F.2.2.2.1.trans hr) (fun t ht hW => ⟨⟨_, h, rfl, hp, by rw [ht]; exact P, X⟩, S.F ht⟩) S.2.2 hd F.2.2.2.2.1)
theorem z_nb {v : Int32} (hz : v = 0 ∨ v = 1) : narrow .boolean (.int v) = .int v := by
  rcases hz with rfl | rfl <;> decide
theorem z_zret {v : Int32} (hr : ret = some .boolean) (hz : v = 0 ∨ v = 1) (hd : decode cc pc = .ok (.ireturn, 1)) (hk : k ≤ R.cells) (hn : n ≤ R.slots) (hp : Po (some (.int v)) h) : zG (zcx l E cc own nL ret ini R h0 sz Po) k n pc L [.int v] h := by
  intro p e s m args below meth c H locs ls F S P X hl
  exact W.widen hk hn (W.zret F.1 F.2.1 (F.2.2.2.1.trans hr) (z_nb hz) (fun t ht hW => ⟨⟨_, h, rfl, hp, by rw [ht]; exact P, X⟩, S.F ht⟩) S.2.2 hd F.2.2.2.2.1)
theorem z_aret {r : Option Nat} {rt : FieldType} (hr : ret = some rt) (hrt : (∃ n, rt = .object n) ∨ ∃ t, rt = .array t) (hd : decode cc pc = .ok (.areturn, 1)) (hk : k ≤ R.cells) (hn : n ≤ R.slots) (hp : Po (some (va_rf r)) h) : zG (zcx l E cc own nL ret ini R h0 sz Po) k n pc L [va_rf r] h := by
  intro p e s m args below meth c H locs ls F S P X hl
  exact W.widen hk hn (W.aret F.1 F.2.1 (F.2.2.2.1.trans hr) hrt (va_rf_or r) (fun t ht hW => ⟨⟨_, h, rfl, hp, by rw [ht]; exact P, X⟩, S.F ht⟩) S.2.2 hd F.2.2.2.2.1)
theorem z_vret (hr : ret = none) (hd : decode cc pc = .ok (.return_, 1)) (hk : k ≤ R.cells) (hn : n ≤ R.slots) (hp : Po none h) : zG (zcx l E cc own nL ret ini R h0 sz Po) k n pc L [] h := by
  intro p e s m args below meth c H locs ls F S P X hl
  exact W.widen hk hn (W.vret F.1 F.2.1 (F.2.2.2.1.trans hr) (fun t ht hW => ⟨⟨_, h, rfl, hp, by rw [ht]; exact P, X⟩, S.F ht⟩) S.2.2 hd F.2.2.2.2.1)
end ZX
/-- A CONTRACT: from every heap that holds h, the method returns, and Po of its answer and of what the heap holds then; it makes at most R.cells cells of R.slots slots, and changes none but h's and new ones -/
def zM (l : Launch) (E : zE) (y : MethodName) (cc : ByteArray) (nL : Nat) (ret : Option FieldType) (R : Room) (av : List Value) (h : zPH) (Po : Option Value → zPH → Prop) : Prop :=
  ∀ sz : Nat, Met l y [.code y cc nL ret] R (va_Pc av (fun U => U.heap.size = sz ∧ zhl E h U.heap ∧ zKK E (zA h sz) U)) (zQ E h sz Po) R.cells R.slots (zA h sz)
def zent (av : List Value) (nL : Nat) : zL := av.map some ++ List.replicate (nL - av.length) none
theorem zsl {av : List Value} (h : ∀ v ∈ av, v.category = 1) : lg_sl av = av.map Slot.val := by
  induction av with
  | nil => rfl
  | cons v t ih =>
    have h1 := h v List.mem_cons_self
    have h2 := ih (fun w hw => h w (List.mem_cons_of_mem _ hw))
    unfold lg_sl at h2 ⊢
    rw [List.flatMap_cons, h2, if_neg (by omega)]
    rfl
theorem zlh_ent {av : List Value} {nL : Nat} (h : ∀ v ∈ av, v.category = 1) (hn : av.length ≤ nL) : zlh ((lg_sl av ++ List.replicate (nL - (lg_sl av).length) Slot.unset).toArray) nL (zent av nL) := by
  have hs := zsl h
  have hle : (lg_sl av).length ≤ nL := by rw [hs]; simpa using hn
  obtain ⟨e1, e2, -⟩ := lv_entry av hle
  refine ⟨⟨e1, e2, fun q hq => by cases hq⟩, fun i v hi => ?_⟩
  unfold zent at hi
  by_cases hl : i < av.length
  · rw [List.getElem?_append_left (by simpa using hl), List.getElem?_map] at hi
    cases hx : av[i]? with
    | none => rw [hx] at hi; cases hi
    | some w =>
      rw [hx] at hi
      cases hi
      refine ⟨?_, h v (List.mem_of_getElem? hx)⟩
      rw [hs, List.getElem?_toArray, List.getElem?_append_left (by simpa using hl), List.getElem?_map, hx]
      rfl
  · rw [List.getElem?_append_right (by simpa using hl)] at hi
    have := List.mem_of_getElem? hi
    simp at this
theorem zM_of {l : Launch} {E : zE} {y : MethodName} {cc : ByteArray} {nL : Nat} {ret : Option FieldType} {R : Room} {av : List Value} {h : zPH} {Po : Option Value → zPH → Prop} (hy : plainFor y = true) (hc : ∀ v ∈ av, v.category = 1) (hn : av.length ≤ nL)
    (body : ∀ sz : Nat, zG (zcx l E cc y.cls nL ret (y.name == "<init>") R h sz Po) 0 0 0 (zent av nL) [] h) : zM l E y cc nL ret R av h Po := by
  intro sz
  refine va_MetF (cc := cc) (maxL := nL) (ret := ret) hy rfl ?_
  intro p e s m args below meth c s₁ B hml hv
  obtain ⟨rfl, hsz, hP, hK⟩ := hv
  rw [lg_entry_eq]
  refine body sz p e s m _ below meth c s.heap [] _ ⟨B.exec, B.bytes, hml, B.returns, B.notSynchronized, findClass_of_methodNamed B.named, fun hi => ?_, hsz, hK, trivial⟩ va_S.rf hP zex_rf (zlh_ent hc hn)
  rw [(name_of_methodNamed B.named B.method).1]
  exact eq_of_beq hi
/-- what a callee is by the tables -/
def zCB (y : MethodName) (cc : ByteArray) (nL : Nat) (ret : Option FieldType) (np : Nat) : Prop := Cond.code y cc nL ret ∈ zT ∧ Cond.initialized y.cls ∈ zT ∧ (y.cls ≠ "java/lang/invoke/MethodHandle" ∧ y.cls ≠ "java/lang/invoke/VarHandle") ∧ (parseMethodDescriptor y.desc).map (fun d => d.parameters.length) = some np
def zCI (y : MethodName) (ci : Nat) : Prop := Cond.instanceMethod y ∈ zT ∧ ∃ r : vw_C, zcl[ci]? = some r ∧ Cond.selects r.1 y y ∈ zT
def zCL (own : String) (idx : Nat) (y : MethodName) : Prop := Cond.methodLink own idx y ∈ zT ∨ ∃ host : String, Cond.methodLinkNest own idx y host ∈ zT
def zfit (rm : Room) (nL : Nat) (R : Room) : Bool := Nat.ble (rm.frames + 1) R.frames && Nat.ble (8 + (nL + 11) + rm.locals) R.locals
theorem zfit_1 {rm R : Room} {nL : Nat} (h : zfit rm nL R = true) : rm.frames + 1 ≤ R.frames ∧ 8 + (nL + 11) + rm.locals ≤ R.locals := by
  unfold zfit at h
  rw [Bool.and_eq_true] at h
  exact ⟨Nat.le_of_ble_eq_true h.1, Nat.le_of_ble_eq_true h.2⟩
section ZC
variable {C : zC} {k n pc : Nat} {L : zL} {st : List Value} {h : zPH}
theorem zrun_A {p : Program} {s : State} {m : MethodId} {meth : Method} {c : Code} {H : Heap} {locs : List Loc} (F : zFX C p s m meth c) (S : va_S (zA C.h0 C.sz) s.heap H locs) (X : zex C.h0 C.sz h) : ∀ q, zA h H.size q → zA C.h0 C.sz q := by
  intro q hq
  rcases hq with hq | hq
  · exact X q hq
  · exact zFX_A F q (Nat.le_trans S.1 hq)
theorem zrun_3 {p : Program} {e : Env} {s : State} {m : MethodId} {args : Array Value} {below : List Frame} {meth : Method} {c : Code} {H : Heap} {locs : List Loc} {ls : Array Slot} (F : zFX C p s m meth c) (S : va_S (zA C.h0 C.sz) s.heap H locs) (X : zex C.h0 C.sz h) (hl : zlh ls C.nL L) {av : Array Value} {Po : Option Value → zPH → Prop} {mc ms : Nat} {rest : List Value}
    (hr : va_Run p C.l e C.R s m args below meth c H locs k n mc ms (F0 m pc ls st) rest (zQ C.E h H.size Po av) (zA h H.size))
    (kk : ∀ (v : Option Value) (h' : zPH), Po v h' → zG C (k + mc) (n + ms) (pc + 3) L (v.toList ++ rest) h') : W p C.l e C.R s m args below meth c H locs k n (C.Q below args s) (F0 m pc ls st) := by
  have hA := zrun_A F S X
  intro T hT Xs
  obtain ⟨v, st₀, t, T', Lc, g0, X', hL, e1, e2, ⟨⟨v', h', hv, hPo, hh, hx⟩, hz, hk⟩, stp⟩ := hr T hT Xs
  cases hv
  rw [g0] at hz hk
  have hS' : va_S (zA C.h0 C.sz) s.heap T'.heap (locs ++ Lc) := ⟨Nat.le_trans S.1 (by rw [e1]; exact hz), fun q h1 h2 => by rw [e1, hk q (Nat.lt_of_lt_of_le h1 S.1) (fun z => h2 (hA q z))]; exact S.2.1 q h1 h2, fun q hq => by
    rcases List.mem_append.mp hq with z | z
    · exact S.2.2 q z
    · exact hA _ (hL q z)⟩
  obtain ⟨t2, a1, b1⟩ := kk v h' hPo p e s m args below meth c T'.heap (locs ++ Lc) ls F hS' (by rw [e1]; exact hh) (fun q hq => hA q (hx q hq)) hl T' rfl X'
  exact ⟨t2, stp t2 a1, b1⟩
theorem zrun_5 {p : Program} {e : Env} {s : State} {m : MethodId} {args : Array Value} {below : List Frame} {meth : Method} {c : Code} {H : Heap} {locs : List Loc} {ls : Array Slot} (F : zFX C p s m meth c) (S : va_S (zA C.h0 C.sz) s.heap H locs) (X : zex C.h0 C.sz h) (hl : zlh ls C.nL L) {av : Array Value} {Po : Option Value → zPH → Prop} {mc ms : Nat} {rest : List Value}
    (hr : va_Run5 p C.l e C.R s m args below meth c H locs k n mc ms (F0 m pc ls st) rest (zQ C.E h H.size Po av) (zA h H.size))
    (kk : ∀ (v : Option Value) (h' : zPH), Po v h' → zG C (k + mc) (n + ms) (pc + 5) L (v.toList ++ rest) h') : W p C.l e C.R s m args below meth c H locs k n (C.Q below args s) (F0 m pc ls st) := by
  have hA := zrun_A F S X
  intro T hT Xs
  obtain ⟨v, st₀, t, T', Lc, g0, X', hL, e1, e2, ⟨⟨v', h', hv, hPo, hh, hx⟩, hz, hk⟩, stp⟩ := hr T hT Xs
  cases hv
  rw [g0] at hz hk
  have hS' : va_S (zA C.h0 C.sz) s.heap T'.heap (locs ++ Lc) := ⟨Nat.le_trans S.1 (by rw [e1]; exact hz), fun q h1 h2 => by rw [e1, hk q (Nat.lt_of_lt_of_le h1 S.1) (fun z => h2 (hA q z))]; exact S.2.1 q h1 h2, fun q hq => by
    rcases List.mem_append.mp hq with z | z
    · exact S.2.2 q z
    · exact hA _ (hL q z)⟩
  obtain ⟨t2, a1, b1⟩ := kk v h' hPo p e s m args below meth c T'.heap (locs ++ Lc) ls F hS' (by rw [e1]; exact hh) (fun q hq => hA q (hx q hq)) hl T' rfl X'
  exact ⟨t2, stp t2 a1, b1⟩
variable {y : MethodName} {cc : ByteArray} {nL : Nat} {ret : Option FieldType} {rm : Room} {As rest : List Value} {Po : Option Value → zPH → Prop} {np ci idx b : Nat} {fs : List Value}
theorem zpre_b {av : List Value} {sz : Nat} {E : zE} : FrameBlind (va_Pc av (fun U => U.heap.size = sz ∧ zhl E h U.heap ∧ zKK E (zA h sz) U)) := by
  intro a U g mk q
  obtain ⟨q0, q1, q2, q3⟩ := q
  exact ⟨q0, q1, q2, zKK_fr q3⟩
theorem zpre_u {p : Program} {s : State} {m : MethodId} {meth : Method} {c : Code} {H : Heap} {locs : List Loc} (F : zFX C p s m meth c) (S : va_S (zA C.h0 C.sz) s.heap H locs) (P : zhl C.E h H) (X : zex C.h0 C.sz h) (av : List Value) : ∀ U : State, U.heap = H → s.WarmedH U.vm → va_Pc av (fun U => U.heap.size = H.size ∧ zhl C.E h U.heap ∧ zKK C.E (zA h H.size) U) av.toArray U := by
  intro U hU hW
  exact ⟨rfl, by rw [hU], by rw [hU]; exact P, zKK_mv F.2.2.2.2.2.2.2.2.1 hW S hU (zrun_A F S X)⟩
theorem zcb_w {s : State} {E : zE} {A : Nat → Prop} (K : zKK E A s) (hB : zCB y cc nL ret np) : ∀ w ∈ [Cond.code y cc nL ret], ∀ (a' : Array Value) (U : State), s.WarmedH U.vm → w.before a' U = true := by
  intro w hw a' U hW
  have e1 : w = Cond.code y cc nL ret := List.mem_singleton.mp hw
  subst e1
  exact word_at hW (Or.inl rfl) (zKK_w K #[] _ hB.1)
theorem zcb_n (hB : zCB y cc nL ret np) : ∀ sig, parseMethodDescriptor y.desc = some sig → np = sig.parameters.length := by
  intro sig hs
  have h2 := hB.2.2.2
  rw [hs] at h2
  exact (Option.some.inj h2).symm
theorem z_callV (hM : zM C.l C.E y cc nL ret rm (.ref b :: As) h Po) (hB : zCB y cc nL ret np) (hI : zCI y ci) (hL : zCL C.own idx y) (hb : h b = some (zob ci fs)) (hn : As.length = np) (hst : st = As.reverse ++ .ref b :: rest) (hcat : (rest.map fun v => v.category).sum ≤ 8) (hfit : zfit rm nL C.R = true) (hc : k + rm.cells ≤ C.R.cells) (hs : n + rm.slots ≤ C.R.slots) (hd : decode C.cc pc = .ok (.invokevirtual idx, 3))
    (kk : ∀ (v : Option Value) (h' : zPH), Po v h' → zG C (k + rm.cells) (n + rm.slots) (pc + 3) L (v.toList ++ rest) h') : zG C k n pc L st h := by
  intro p e s m args below meth c H locs ls F S P X hl
  have K := F.2.2.2.2.2.2.2.2.1
  obtain ⟨f1, f2⟩ := zfit_1 hfit
  obtain ⟨i1, r, i2, i3⟩ := hI
  obtain ⟨q0, hq⟩ := zws_at P hb
  have hp : PreV s H r.1 b (va_Pc (.ref b :: As) (fun U => U.heap.size = H.size ∧ zhl C.E h U.heap ∧ zKK C.E (zA h H.size) U)) As := ⟨zpre_b, va_recv K.2.1 (zws_P P) i2 hq, zpre_u F S P X _⟩
  refine zrun_3 (av := (Value.ref b :: As).toArray) F S X hl ?_ kk
  rcases hL with hL | ⟨host, hL⟩
  · exact va_runV (Ts := zT) ⟨F.1, F.2.1, F.2.2.1, F.2.2.2.2.2.1, zKK_w K args⟩ (hM H.size) ⟨⟨rfl, rfl, f1, f2, zcb_w K hB, List.mem_singleton.mpr rfl, zKK_w K args _ hB.1, zKK_w K args _ hB.2.1, hB.2.2.1, zcb_n hB, zKK_w K args _ hL⟩, zKK_w K args _ i1, zKK_w K args _ i3⟩ hp rfl hn hl.1.1 hst (lv_room hcat) hd ⟨hc, hs⟩
  · exact va_runVN (Ts := zT) ⟨F.1, F.2.1, F.2.2.1, F.2.2.2.2.2.1, zKK_w K args⟩ (hM H.size) ⟨⟨⟨rfl, rfl, f1, f2, zcb_w K hB, List.mem_singleton.mpr rfl⟩, zKK_w K args _ hB.1, zKK_w K args _ hB.2.1, hB.2.2.1, zcb_n hB, zKK_w K args _ hL⟩, zKK_w K args _ i1, zKK_w K args _ i3⟩ hp rfl hn hl.1.1 hst (lv_room hcat) hd ⟨hc, hs⟩
theorem z_callS (hM : zM C.l C.E y cc nL ret rm As h Po) (hB : zCB y cc nL ret np) (hI : Cond.static y ∈ zT) (hL : zCL C.own idx y) (hn : As.length = np) (hst : st = As.reverse ++ rest) (hcat : (rest.map fun v => v.category).sum ≤ 8) (hfit : zfit rm nL C.R = true) (hc : k + rm.cells ≤ C.R.cells) (hs : n + rm.slots ≤ C.R.slots) (hd : decode C.cc pc = .ok (.invokestatic idx, 3))
    (kk : ∀ (v : Option Value) (h' : zPH), Po v h' → zG C (k + rm.cells) (n + rm.slots) (pc + 3) L (v.toList ++ rest) h') : zG C k n pc L st h := by
  intro p e s m args below meth c H locs ls F S P X hl
  have K := F.2.2.2.2.2.2.2.2.1
  obtain ⟨f1, f2⟩ := zfit_1 hfit
  have hp : PreS s H (va_Pc As (fun U => U.heap.size = H.size ∧ zhl C.E h U.heap ∧ zKK C.E (zA h H.size) U)) As := ⟨zpre_b, zpre_u F S P X _⟩
  refine zrun_3 (av := As.toArray) F S X hl ?_ kk
  rcases hL with hL | ⟨host, hL⟩
  · exact va_runS (Ts := zT) ⟨F.1, F.2.1, F.2.2.1, F.2.2.2.2.2.1, zKK_w K args⟩ (hM H.size) ⟨⟨rfl, rfl, f1, f2, zcb_w K hB, List.mem_singleton.mpr rfl, zKK_w K args _ hB.1, zKK_w K args _ hB.2.1, hB.2.2.1, zcb_n hB, zKK_w K args _ hL⟩, zKK_w K args _ hI⟩ hp rfl hn hl.1.1 hst (lv_room hcat) hd ⟨hc, hs⟩
  · exact va_runSN (Ts := zT) ⟨F.1, F.2.1, F.2.2.1, F.2.2.2.2.2.1, zKK_w K args⟩ (hM H.size) ⟨⟨⟨rfl, rfl, f1, f2, zcb_w K hB, List.mem_singleton.mpr rfl⟩, zKK_w K args _ hB.1, zKK_w K args _ hB.2.1, hB.2.2.1, zcb_n hB, zKK_w K args _ hL⟩, zKK_w K args _ hI, trivial⟩ hp rfl hn hl.1.1 hst (lv_room hcat) hd ⟨hc, hs⟩
theorem z_callI (hM : zM C.l C.E y cc nL none rm (.ref b :: As) h Po) (hB : zCB y cc nL none np) (hI : y.name = "<init>" ∧ Cond.instanceMethod y ∈ zT) (hL : zCL C.own idx y) (hn : As.length = np) (hst : st = As.reverse ++ .ref b :: rest) (hcat : (rest.map fun v => v.category).sum ≤ 8) (hfit : zfit rm nL C.R = true) (hc : k + rm.cells ≤ C.R.cells) (hs : n + rm.slots ≤ C.R.slots) (hd : decode C.cc pc = .ok (.invokespecial idx, 3))
    (kk : ∀ (v : Option Value) (h' : zPH), Po v h' → zG C (k + rm.cells) (n + rm.slots) (pc + 3) L (v.toList ++ rest) h') : zG C k n pc L st h := by
  intro p e s m args below meth c H locs ls F S P X hl
  have K := F.2.2.2.2.2.2.2.2.1
  obtain ⟨f1, f2⟩ := zfit_1 hfit
  have hp : PreS s H (va_Pc (.ref b :: As) (fun U => U.heap.size = H.size ∧ zhl C.E h U.heap ∧ zKK C.E (zA h H.size) U)) (.ref b :: As) := ⟨zpre_b, zpre_u F S P X _⟩
  refine zrun_3 (av := (Value.ref b :: As).toArray) F S X hl ?_ kk
  rcases hL with hL | ⟨host, hL⟩
  · exact va_runI (Ts := zT) ⟨F.1, F.2.1, F.2.2.1, F.2.2.2.2.2.1, zKK_w K args⟩ (hM H.size) ⟨⟨rfl, rfl, f1, f2, zcb_w K hB, List.mem_singleton.mpr rfl, zKK_w K args _ hB.1, zKK_w K args _ hB.2.1, hB.2.2.1, zcb_n hB, zKK_w K args _ hL⟩, hI.1, zKK_w K args _ hI.2⟩ hp rfl hn hl.1.1 hst (lv_room hcat) hd ⟨hc, hs⟩
  · exact va_runIN (Ts := zT) ⟨F.1, F.2.1, F.2.2.1, F.2.2.2.2.2.1, zKK_w K args⟩ (hM H.size) ⟨⟨⟨rfl, rfl, f1, f2, zcb_w K hB, List.mem_singleton.mpr rfl⟩, zKK_w K args _ hB.1, zKK_w K args _ hB.2.1, hB.2.2.1, zcb_n hB, zKK_w K args _ hL⟩, hI.1, zKK_w K args _ hI.2⟩ hp rfl hn hl.1.1 hst (lv_room hcat) hd ⟨hc, hs⟩
/-- a List's method: the receiver is an ArrayList (class 9) -/
def zCF (x y : MethodName) : Prop := Cond.selects "java/util/ArrayList" x y ∈ zT ∧ Cond.instanceMethod y ∈ zT ∧ (x.cls ≠ "java/lang/invoke/MethodHandle" ∧ x.cls ≠ "java/lang/invoke/VarHandle") ∧ x.desc = y.desc ∧ ∀ (E : zE) (A : Nat → Prop) (s : State), zKK E A s → va_Fw "java/util/ArrayList" x y s
theorem z_callF {x : MethodName} {cnt : Nat} (hM : zM C.l C.E y cc nL ret rm (.ref b :: As) h Po) (hB : zCB y cc nL ret np) (hI : zCF x y) (hL : Cond.methodLink C.own idx x ∈ zT) (hb : h b = some (zob 9 fs)) (hn : As.length = np) (hst : st = As.reverse ++ .ref b :: rest) (hcat : (rest.map fun v => v.category).sum ≤ 8) (hfit : zfit rm nL C.R = true) (hc : k + rm.cells ≤ C.R.cells) (hs : n + rm.slots ≤ C.R.slots) (hd : decode C.cc pc = .ok (.invokeinterface idx cnt, 5))
    (kk : ∀ (v : Option Value) (h' : zPH), Po v h' → zG C (k + rm.cells) (n + rm.slots) (pc + 5) L (v.toList ++ rest) h') : zG C k n pc L st h := by
  intro p e s m args below meth c H locs ls F S P X hl
  have K := F.2.2.2.2.2.2.2.2.1
  obtain ⟨f1, f2⟩ := zfit_1 hfit
  obtain ⟨i1, i2, i3, i4, i5⟩ := hI
  have hF := i5 _ _ _ K
  obtain ⟨q0, hq⟩ := zws_at P hb
  have hp : PreV s H "java/util/ArrayList" b (va_Pc (.ref b :: As) (fun U => U.heap.size = H.size ∧ zhl C.E h U.heap ∧ zKK C.E (zA h H.size) U)) As := ⟨zpre_b, va_recv (q := (R_AL, F_AL, 3)) K.2.1 (zws_P P) rfl hq, zpre_u F S P X _⟩
  refine zrun_5 (av := (Value.ref b :: As).toArray) F S X hl ?_ kk
  exact va_runF (Ts := zT) (K.2.1.1 9 (R_AL, F_AL, 3) rfl).2 ⟨F.1, F.2.1, F.2.2.1, F.2.2.2.2.2.1, zKK_w K args⟩ (hM H.size) ⟨⟨rfl, rfl, f1, f2, zcb_w K hB, List.mem_singleton.mpr rfl⟩, zKK_w K args _ hL, va_any rfl hF.1, va_any rfl hF.2.1, zKK_w K args _ i1, zKK_w K args _ i2, va_any rfl hF.2.2.1, va_any rfl hF.2.2.2.1, va_any rfl hF.2.2.2.2, zKK_w K args _ hB.2.1, zKK_w K args _ hB.1, i3, fun sig hsg => zcb_n hB sig (by rw [← i4]; exact hsg)⟩ hp rfl hn hl.1.1 hst (lv_room hcat) hd ⟨hc, hs⟩
end ZC
