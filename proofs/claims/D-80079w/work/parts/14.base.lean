/-! contracts with a plain answer; pictures by roles; loops; small constants -/
def zPi (r : Int32) (h1 : zPH) : Option Value → zPH → Prop := fun v h' => v = some (.int r) ∧ h' = h1
def zPv (h1 : zPH) : Option Value → zPH → Prop := fun v h' => v = none ∧ h' = h1
def zPr (r : Option Nat) (h1 : zPH) : Option Value → zPH → Prop := fun v h' => v = some (va_rf r) ∧ h' = h1
theorem zM_w {l : Launch} {E : zE} {y : MethodName} {cc : ByteArray} {nL : Nat} {ret : Option FieldType} {R : Room} {av : List Value} {h : zPH} {Po : Option Value → zPH → Prop} (hy : plainFor y = true) (hc : av.all (fun v => v.category == 1) = true) (hn : Nat.ble av.length nL = true)
    (body : ∀ sz : Nat, zG (zcx l E cc y.cls nL ret (y.name == "<init>") R h sz Po) 0 0 0 (zent av nL) [] h) : zM l E y cc nL ret R av h Po :=
  zM_of hy (fun v hv => by have := List.all_eq_true.mp hc v hv; simpa using this) (Nat.le_of_ble_eq_true hn) body
section ZB
variable {C : zC} {k n pc : Nat} {L : zL} {st : List Value} {h : zPH} {y : MethodName} {cc : ByteArray} {nL : Nat} {ret : Option FieldType} {rm : Room} {As rest : List Value} {np ci idx b : Nat} {fs : List Value} {h1 : zPH}
theorem z_cVi {r : Int32} (hM : zM C.l C.E y cc nL ret rm (.ref b :: As) h (zPi r h1)) (hB : zCB y cc nL ret np) (hI : zCI y ci) (hL : zCL C.own idx y) (hb : h b = some (zob ci fs)) (hn : As.length = np) (hst : st = As.reverse ++ .ref b :: rest) (hcat : (rest.map fun v => v.category).sum ≤ 8) (hfit : zfit rm nL C.R = true) (hc : k + rm.cells ≤ C.R.cells) (hs : n + rm.slots ≤ C.R.slots) (hd : decode C.cc pc = .ok (.invokevirtual idx, 3)) (kk : zG C (k + rm.cells) (n + rm.slots) (pc + 3) L (.int r :: rest) h1) : zG C k n pc L st h :=
  z_callV hM hB hI hL hb hn hst hcat hfit hc hs hd (fun v h' q => by obtain ⟨rfl, rfl⟩ := q; exact kk)
theorem z_cVv (hM : zM C.l C.E y cc nL ret rm (.ref b :: As) h (zPv h1)) (hB : zCB y cc nL ret np) (hI : zCI y ci) (hL : zCL C.own idx y) (hb : h b = some (zob ci fs)) (hn : As.length = np) (hst : st = As.reverse ++ .ref b :: rest) (hcat : (rest.map fun v => v.category).sum ≤ 8) (hfit : zfit rm nL C.R = true) (hc : k + rm.cells ≤ C.R.cells) (hs : n + rm.slots ≤ C.R.slots) (hd : decode C.cc pc = .ok (.invokevirtual idx, 3)) (kk : zG C (k + rm.cells) (n + rm.slots) (pc + 3) L rest h1) : zG C k n pc L st h :=
  z_callV hM hB hI hL hb hn hst hcat hfit hc hs hd (fun v h' q => by obtain ⟨rfl, rfl⟩ := q; exact kk)
theorem z_cVr {r : Option Nat} (hM : zM C.l C.E y cc nL ret rm (.ref b :: As) h (zPr r h1)) (hB : zCB y cc nL ret np) (hI : zCI y ci) (hL : zCL C.own idx y) (hb : h b = some (zob ci fs)) (hn : As.length = np) (hst : st = As.reverse ++ .ref b :: rest) (hcat : (rest.map fun v => v.category).sum ≤ 8) (hfit : zfit rm nL C.R = true) (hc : k + rm.cells ≤ C.R.cells) (hs : n + rm.slots ≤ C.R.slots) (hd : decode C.cc pc = .ok (.invokevirtual idx, 3)) (kk : zG C (k + rm.cells) (n + rm.slots) (pc + 3) L (va_rf r :: rest) h1) : zG C k n pc L st h :=
  z_callV hM hB hI hL hb hn hst hcat hfit hc hs hd (fun v h' q => by obtain ⟨rfl, rfl⟩ := q; exact kk)
theorem z_cSi {r : Int32} (hM : zM C.l C.E y cc nL ret rm As h (zPi r h1)) (hB : zCB y cc nL ret np) (hI : Cond.static y ∈ zT) (hL : zCL C.own idx y) (hn : As.length = np) (hst : st = As.reverse ++ rest) (hcat : (rest.map fun v => v.category).sum ≤ 8) (hfit : zfit rm nL C.R = true) (hc : k + rm.cells ≤ C.R.cells) (hs : n + rm.slots ≤ C.R.slots) (hd : decode C.cc pc = .ok (.invokestatic idx, 3)) (kk : zG C (k + rm.cells) (n + rm.slots) (pc + 3) L (.int r :: rest) h1) : zG C k n pc L st h :=
  z_callS hM hB hI hL hn hst hcat hfit hc hs hd (fun v h' q => by obtain ⟨rfl, rfl⟩ := q; exact kk)
theorem z_cSr {r : Option Nat} (hM : zM C.l C.E y cc nL ret rm As h (zPr r h1)) (hB : zCB y cc nL ret np) (hI : Cond.static y ∈ zT) (hL : zCL C.own idx y) (hn : As.length = np) (hst : st = As.reverse ++ rest) (hcat : (rest.map fun v => v.category).sum ≤ 8) (hfit : zfit rm nL C.R = true) (hc : k + rm.cells ≤ C.R.cells) (hs : n + rm.slots ≤ C.R.slots) (hd : decode C.cc pc = .ok (.invokestatic idx, 3)) (kk : zG C (k + rm.cells) (n + rm.slots) (pc + 3) L (va_rf r :: rest) h1) : zG C k n pc L st h :=
  z_callS hM hB hI hL hn hst hcat hfit hc hs hd (fun v h' q => by obtain ⟨rfl, rfl⟩ := q; exact kk)
theorem z_cIv (hM : zM C.l C.E y cc nL none rm (.ref b :: As) h (zPv h1)) (hB : zCB y cc nL none np) (hI : y.name = "<init>" ∧ Cond.instanceMethod y ∈ zT) (hL : zCL C.own idx y) (hn : As.length = np) (hst : st = As.reverse ++ .ref b :: rest) (hcat : (rest.map fun v => v.category).sum ≤ 8) (hfit : zfit rm nL C.R = true) (hc : k + rm.cells ≤ C.R.cells) (hs : n + rm.slots ≤ C.R.slots) (hd : decode C.cc pc = .ok (.invokespecial idx, 3)) (kk : zG C (k + rm.cells) (n + rm.slots) (pc + 3) L rest h1) : zG C k n pc L st h :=
  z_callI hM hB hI hL hn hst hcat hfit hc hs hd (fun v h' q => by obtain ⟨rfl, rfl⟩ := q; exact kk)
theorem z_cFi {r : Int32} {x : MethodName} {cnt : Nat} (hM : zM C.l C.E y cc nL ret rm (.ref b :: As) h (zPi r h1)) (hB : zCB y cc nL ret np) (hI : zCF x y) (hL : Cond.methodLink C.own idx x ∈ zT) (hb : h b = some (zob 9 fs)) (hn : As.length = np) (hst : st = As.reverse ++ .ref b :: rest) (hcat : (rest.map fun v => v.category).sum ≤ 8) (hfit : zfit rm nL C.R = true) (hc : k + rm.cells ≤ C.R.cells) (hs : n + rm.slots ≤ C.R.slots) (hd : decode C.cc pc = .ok (.invokeinterface idx cnt, 5)) (kk : zG C (k + rm.cells) (n + rm.slots) (pc + 5) L (.int r :: rest) h1) : zG C k n pc L st h :=
  z_callF hM hB hI hL hb hn hst hcat hfit hc hs hd (fun v h' q => by obtain ⟨rfl, rfl⟩ := q; exact kk)
theorem z_cFv {x : MethodName} {cnt : Nat} (hM : zM C.l C.E y cc nL ret rm (.ref b :: As) h (zPv h1)) (hB : zCB y cc nL ret np) (hI : zCF x y) (hL : Cond.methodLink C.own idx x ∈ zT) (hb : h b = some (zob 9 fs)) (hn : As.length = np) (hst : st = As.reverse ++ .ref b :: rest) (hcat : (rest.map fun v => v.category).sum ≤ 8) (hfit : zfit rm nL C.R = true) (hc : k + rm.cells ≤ C.R.cells) (hs : n + rm.slots ≤ C.R.slots) (hd : decode C.cc pc = .ok (.invokeinterface idx cnt, 5)) (kk : zG C (k + rm.cells) (n + rm.slots) (pc + 5) L rest h1) : zG C k n pc L st h :=
  z_callF hM hB hI hL hb hn hst hcat hfit hc hs hd (fun v h' q => by obtain ⟨rfl, rfl⟩ := q; exact kk)
theorem z_cFr {r : Option Nat} {x : MethodName} {cnt : Nat} (hM : zM C.l C.E y cc nL ret rm (.ref b :: As) h (zPr r h1)) (hB : zCB y cc nL ret np) (hI : zCF x y) (hL : Cond.methodLink C.own idx x ∈ zT) (hb : h b = some (zob 9 fs)) (hn : As.length = np) (hst : st = As.reverse ++ .ref b :: rest) (hcat : (rest.map fun v => v.category).sum ≤ 8) (hfit : zfit rm nL C.R = true) (hc : k + rm.cells ≤ C.R.cells) (hs : n + rm.slots ≤ C.R.slots) (hd : decode C.cc pc = .ok (.invokeinterface idx cnt, 5)) (kk : zG C (k + rm.cells) (n + rm.slots) (pc + 5) L (va_rf r :: rest) h1) : zG C k n pc L st h :=
  z_callF hM hB hI hL hb hn hst hcat hfit hc hs hd (fun v h' q => by obtain ⟨rfl, rfl⟩ := q; exact kk)
end ZB
/-- a picture by roles -/
noncomputable def zpm {ι : Type} (dm : ι → Prop) (A : ι → Nat) (ct : ι → va_E) : zPH := fun a => @dite _ (∃ i, dm i ∧ A i = a) (Classical.propDecidable _) (fun h => some (ct h.choose)) (fun _ => none)
def zinj {ι : Type} (dm : ι → Prop) (A : ι → Nat) : Prop := ∀ i j : ι, dm i → dm j → A i = A j → i = j
theorem zpm_at {ι : Type} {dm : ι → Prop} {A : ι → Nat} {ct : ι → va_E} (hA : zinj dm A) {i : ι} (hi : dm i) : zpm dm A ct (A i) = some (ct i) := by
  unfold zpm
  have hx : ∃ j, dm j ∧ A j = A i := ⟨i, hi, rfl⟩
  rw [dif_pos hx]
  have h := hx.choose_spec
  rw [hA _ _ h.1 hi h.2]
theorem zpm_no {ι : Type} {dm : ι → Prop} {A : ι → Nat} {ct : ι → va_E} {a : Nat} (h : ∀ i, dm i → A i ≠ a) : zpm dm A ct a = none := by
  unfold zpm
  rw [dif_neg (fun ⟨i, h1, h2⟩ => h i h1 h2)]
theorem zpm_inv {ι : Type} {dm : ι → Prop} {A : ι → Nat} {ct : ι → va_E} {a : Nat} {e : va_E} (h : zpm dm A ct a = some e) : ∃ i, dm i ∧ A i = a ∧ ct i = e := by
  unfold zpm at h
  split at h
  · rename_i hx
    exact ⟨hx.choose, hx.choose_spec.1, hx.choose_spec.2, Option.some.inj h⟩
  · cases h
theorem zpm_up {ι : Type} {dm : ι → Prop} {A : ι → Nat} {ct ct' : ι → va_E} (hA : zinj dm A) {i : ι} {e : va_E} (hi : dm i) (h1 : ct' i = e) (h2 : ∀ j, dm j → j ≠ i → ct' j = ct j) : zpu (zpm dm A ct) (A i) e = zpm dm A ct' := by
  funext q
  by_cases hq : q = A i
  · subst hq
    rw [zpu_s, zpm_at hA hi, h1]
  · rw [zpu_n hq]
    by_cases hx : ∃ j, dm j ∧ A j = q
    · obtain ⟨j, hj, rfl⟩ := hx
      rw [zpm_at hA hj, zpm_at hA hj, h2 j hj (fun z => hq (by rw [z]))]
    · rw [zpm_no (fun j hj z => hx ⟨j, hj, z⟩), zpm_no (fun j hj z => hx ⟨j, hj, z⟩)]
theorem zpm_eq {ι : Type} {dm : ι → Prop} {A : ι → Nat} {ct ct' : ι → va_E} (hA : zinj dm A) (h : ∀ j, dm j → ct j = ct' j) : zpm dm A ct = zpm dm A ct' := by
  funext q
  by_cases hx : ∃ j, dm j ∧ A j = q
  · obtain ⟨j, hj, rfl⟩ := hx
    rw [zpm_at hA hj, zpm_at hA hj, h j hj]
  · rw [zpm_no (fun j hj z => hx ⟨j, hj, z⟩), zpm_no (fun j hj z => hx ⟨j, hj, z⟩)]
theorem zpm_le {ι : Type} {dm : ι → Prop} {A : ι → Nat} {ct : ι → va_E} {h : zPH} (hh : ∀ i, dm i → h (A i) = some (ct i)) : zle (zpm dm A ct) h := by
  intro a e ha
  obtain ⟨i, hi, rfl, rfl⟩ := zpm_inv ha
  exact hh i hi
/-- a loop's effect -/
def zit {α : Type} (f : Nat → α → α) : Nat → α → α
  | 0, x => x
  | k + 1, x => f k (zit f k x)
theorem zlp {α : Type} {Gh : Nat → α → Prop} {f : Nat → α → α} {N : Nat} {x0 : α} (hx : Gh N (zit f N x0)) (hs : ∀ k, k < N → Gh (k + 1) (f k (zit f k x0)) → Gh k (zit f k x0)) : Gh 0 x0 := by
  have key : ∀ j, j ≤ N → Gh (N - j) (zit f (N - j) x0) := by
    intro j
    induction j with
    | zero => intro _; exact hx
    | succ j ih =>
      intro hj
      have h1 := ih (by omega)
      have e1 : N - j = (N - (j + 1)) + 1 := by omega
      rw [e1] at h1
      exact hs _ (by omega) h1
  have := key N (Nat.le_refl N)
  rw [Nat.sub_self] at this
  exact this
theorem zit_inv {α : Type} {f : Nat → α → α} {I : Nat → α → Prop} {x0 : α} {N : Nat} (h0 : I 0 x0) (hs : ∀ k x, k < N → I k x → I (k + 1) (f k x)) : ∀ k, k ≤ N → I k (zit f k x0) := by
  intro k
  induction k with
  | zero => intro _; exact h0
  | succ k ih => intro hk; exact hs k _ (by omega) (ih (by omega))
abbrev zSt : Type := Nat → Nat → Int32
def bI (b : Bool) : Int32 := if b then 1 else 0
theorem bI_t : bI true = 1 := rfl
theorem bI_f : bI false = 0 := rfl
theorem bI_z (b : Bool) : bI b = 0 ∨ bI b = 1 := by cases b <;> simp [bI]
theorem nI_b {a b : Nat} (ha : a < 2 ^ 31) (hb : b < 2 ^ 31) : nI a = nI b ↔ a = b := nI_eq ha hb
theorem ic_0 : Int32.ofInt 0 = nI 0 := by decide +kernel
theorem ic_1 : Int32.ofInt 1 = nI 1 := by decide +kernel
theorem ic_2 : Int32.ofInt 2 = nI 2 := by decide +kernel
theorem ic_3 : Int32.ofInt 3 = nI 3 := by decide +kernel
theorem ic_4 : Int32.ofInt 4 = nI 4 := by decide +kernel
theorem ic_5 : Int32.ofInt 5 = nI 5 := by decide +kernel
theorem ic_m1 : Int32.ofInt (-1) = -1 := by decide +kernel
theorem bp_6 : (Int8.ofInt 6).toInt32 = nI 6 := by decide +kernel
theorem bp_7 : (Int8.ofInt 7).toInt32 = nI 7 := by decide +kernel
theorem bp_8 : (Int8.ofInt 8).toInt32 = nI 8 := by decide +kernel
theorem bp_9 : (Int8.ofInt 9).toInt32 = nI 9 := by decide +kernel
theorem bp_10 : (Int8.ofInt 10).toInt32 = nI 10 := by decide +kernel
theorem bp_15 : (Int8.ofInt 15).toInt32 = nI 15 := by decide +kernel
theorem bp_20 : (Int8.ofInt 20).toInt32 = nI 20 := by decide +kernel
theorem bp_21 : (Int8.ofInt 21).toInt32 = nI 21 := by decide +kernel
theorem bp_30 : (Int8.ofInt 30).toInt32 = nI 30 := by decide +kernel
theorem bp_31 : (Int8.ofInt 31).toInt32 = nI 31 := by decide +kernel
theorem bp_60 : (Int8.ofInt 60).toInt32 = nI 60 := by decide +kernel
theorem bp_126 : (Int8.ofInt 126).toInt32 = nI 126 := by decide +kernel
theorem bp_120 : (Int8.ofInt 120).toInt32 = nI 120 := by decide +kernel
theorem bp_1 : (Int8.ofInt 1).toInt32 = nI 1 := by decide +kernel
theorem bp_2 : (Int8.ofInt 2).toInt32 = nI 2 := by decide +kernel
theorem bp_3 : (Int8.ofInt 3).toInt32 = nI 3 := by decide +kernel
theorem bp_4 : (Int8.ofInt 4).toInt32 = nI 4 := by decide +kernel
theorem bp_5 : (Int8.ofInt 5).toInt32 = nI 5 := by decide +kernel
theorem bp_17 : (Int8.ofInt 17).toInt32 = nI 17 := by decide +kernel
theorem bp_m1 : (Int8.ofInt (-1)).toInt32 = -1 := by decide +kernel
theorem bp_m2 : (Int8.ofInt (-2)).toInt32 = -2 := by decide +kernel
theorem bp_m3 : (Int8.ofInt (-3)).toInt32 = -3 := by decide +kernel
theorem bp_m4 : (Int8.ofInt (-4)).toInt32 = -4 := by decide +kernel
theorem sp_160 : (Int16.ofInt 160).toInt32 = nI 160 := by decide +kernel
theorem sp_200 : (Int16.ofInt 200).toInt32 = nI 200 := by decide +kernel
theorem sp_210 : (Int16.ofInt 210).toInt32 = nI 210 := by decide +kernel
theorem sp_240 : (Int16.ofInt 240).toInt32 = nI 240 := by decide +kernel
theorem sp_300 : (Int16.ofInt 300).toInt32 = nI 300 := by decide +kernel
theorem sp_1200 : (Int16.ofInt 1200).toInt32 = nI 1200 := by decide +kernel
theorem sp_1260 : (Int16.ofInt 1260).toInt32 = nI 1260 := by decide +kernel
theorem zlt {a b : Nat} (h : Nat.ble (a + 1) b = true) : a < b := Nat.le_of_ble_eq_true h
theorem zlq {a b : Nat} (h : Nat.ble a b = true) : a ≤ b := Nat.le_of_ble_eq_true h
theorem zinc (a : Nat) : nI a + Int32.ofInt 1 = nI (a + 1) := by rw [ic_1]; exact nI_add a 1
theorem zneg : (-1 : Int32) < 0 := by decide
theorem zneg2 : ¬ (0 : Int32) ≤ -1 := by decide
theorem bp_64 : (Int8.ofInt 64).toInt32 = nI 64 := by decide +kernel
/-- forgetting a local -/
theorem z_fl {C : zC} {k n pc : Nat} {L : zL} {st : List Value} {h : zPH} (i : Nat) (kk : zG C k n pc (L.set i none) st h) : zG C k n pc L st h := by
  intro p e s m args below meth c H locs ls F S P X hl
  refine kk p e s m args below meth c H locs ls F S P X ⟨hl.1, fun j v hj => ?_⟩
  by_cases hij : j = i
  · subst hij
    have hlt : j < L.length := by
      have := (List.getElem?_eq_some_iff.mp hj).1
      simpa using this
    rw [List.getElem?_set_self hlt] at hj
    cases hj
  · rw [List.getElem?_set_ne (Ne.symm hij)] at hj
    exact hl.2 j v hj
