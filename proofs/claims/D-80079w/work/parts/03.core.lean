/-! THE CORE: pictures of heaps as partial functions, the judgement zG (a frame over a picture comes to the method's end), contracts zM. -/
abbrev zPH : Type := Nat → Option va_E
def zpu (h : zPH) (a : Nat) (e : va_E) : zPH := fun q => if q = a then some e else h q
theorem zpu_s {h : zPH} {a : Nat} {e : va_E} : zpu h a e a = some e := if_pos rfl
theorem zpu_n {h : zPH} {a q : Nat} {e : va_E} (n : q ≠ a) : zpu h a e q = h q := if_neg n
theorem zpu_pu {h : zPH} {a : Nat} {e e' : va_E} : zpu (zpu h a e) a e' = zpu h a e' := by
  funext q
  unfold zpu
  split <;> rfl
theorem zpu_id {h : zPH} {a : Nat} {e : va_E} (he : h a = some e) : zpu h a e = h := by
  funext q
  unfold zpu
  split
  · rename_i hq
    rw [hq, he]
  · rfl
theorem zpu_comm {h : zPH} {a b : Nat} {e f : va_E} (n : a ≠ b) : zpu (zpu h a e) b f = zpu (zpu h b f) a e := by
  funext q
  unfold zpu
  split
  · rename_i hq
    rw [if_neg (by rw [hq]; exact fun z => n z.symm)]
  · rfl
/-- environment: class numbers and slots, array classes int[], Object[], Thing[], the shared empty array, the mirror of Object[] -/
abbrev zE : Type := va_G × (ClassId × ClassId × ClassId) × (Nat × Nat)
abbrev zI (E : zE) : ClassId := E.2.1.1
abbrev zO (E : zE) : ClassId := E.2.1.2.1
abbrev zTh (E : zE) : ClassId := E.2.1.2.2
abbrev zt0 (E : zE) : Nat := E.2.2.1
abbrev zmi (E : zE) : Nat := E.2.2.2
abbrev ztys (E : zE) : List (ClassId × FieldType) := [(zI E, .int), (zO E, .object "java/lang/Object"), (zTh E, .object "PointsToRounds$Thing")]
def zhl (E : zE) (h : zPH) (H : Heap) : Prop := ∀ (a : Nat) (e : va_E), h a = some e → va_at E.1 zcl (a, e) H
def zA (h0 : zPH) (sz : Nat) : Nat → Prop := fun q => (h0 q).isSome = true ∨ sz ≤ q
def zex (h0 : zPH) (sz : Nat) (h : zPH) : Prop := ∀ q : Nat, (h q).isSome = true → zA h0 sz q
def zle (h1 h2 : zPH) : Prop := ∀ (a : Nat) (e : va_E), h1 a = some e → h2 a = some e
theorem zle_rf {h : zPH} : zle h h := fun _ _ x => x
theorem zle_tr {a b c : zPH} (h1 : zle a b) (h2 : zle b c) : zle a c := fun q e x => h2 q e (h1 q e x)
theorem zhl_le {E : zE} {h1 h2 : zPH} {H : Heap} (h : zle h1 h2) (hh : zhl E h2 H) : zhl E h1 H := fun a e x => hh a e (h a e x)
theorem zex_le {h0 h1 h2 : zPH} {sz : Nat} (h : zle h1 h2) (hh : zex h0 sz h2) : zex h0 sz h1 := by
  intro q hq
  obtain ⟨e, he⟩ := Option.isSome_iff_exists.mp hq
  exact hh q (by rw [h q e he]; rfl)
theorem zex_rf {h : zPH} {sz : Nat} : zex h sz h := fun _ hq => Or.inl hq
theorem zex_pu {h0 h : zPH} {sz a : Nat} {e : va_E} (hh : zex h0 sz h) (ha : zA h0 sz a) : zex h0 sz (zpu h a e) := by
  intro q hq
  by_cases n : q = a
  · rw [n]; exact ha
  · rw [zpu_n n] at hq; exact hh q hq
theorem zhl_lt {E : zE} {h : zPH} {H : Heap} (hh : zhl E h H) {a : Nat} (ha : (h a).isSome = true) : a < H.size := by
  obtain ⟨e, he⟩ := Option.isSome_iff_exists.mp ha
  exact (hh a e he).lt
/-- the whole picture as a list of cells -/
def zws (h : zPH) (n : Nat) : va_W := (List.range n).filterMap (fun a => (h a).map (fun e => (a, e)))
theorem zws_mem {h : zPH} {n : Nat} {q : Nat × va_E} : q ∈ zws h n ↔ q.1 < n ∧ h q.1 = some q.2 := by
  unfold zws
  constructor
  · intro hm
    obtain ⟨a, ha, he⟩ := List.mem_filterMap.mp hm
    cases hx : h a with
    | none => rw [hx] at he; cases he
    | some e =>
      rw [hx] at he
      cases he
      exact ⟨List.mem_range.mp ha, hx⟩
  · intro ⟨h1, h2⟩
    exact List.mem_filterMap.mpr ⟨q.1, List.mem_range.mpr h1, by rw [h2]; rfl⟩
theorem zws_nd (h : zPH) (n : Nat) : ((zws h n).map Prod.fst).Pairwise (· ≠ ·) := by
  unfold zws
  rw [List.pairwise_map, List.pairwise_filterMap]
  refine List.Pairwise.imp ?_ (List.pairwise_lt_range (n := n))
  intro a b hab x hx y hy e
  cases ha : h a with
  | none => rw [ha] at hx; cases hx
  | some u =>
    cases hb : h b with
    | none => rw [hb] at hy; cases hy
    | some v =>
      rw [ha] at hx
      rw [hb] at hy
      cases hx
      cases hy
      have e' : a = b := e
      omega
theorem zws_D {h0 h : zPH} {sz n : Nat} (hx : zex h0 sz h) : va_D (zA h0 sz) (zws h n) := by
  refine ⟨fun i j p q hi hj hpq => ?_, fun k q hk => hx q.1 (by rw [(zws_mem.mp (List.mem_of_getElem? hk)).2]; rfl)⟩
  have nd := zws_nd h n
  have h1 : ((zws h n).map Prod.fst)[i]? = some p.1 := by rw [List.getElem?_map, hi]; rfl
  have h2 : ((zws h n).map Prod.fst)[j]? = some p.1 := by rw [List.getElem?_map, hj, hpq]; rfl
  obtain ⟨l1, e1⟩ := List.getElem?_eq_some_iff.mp h1
  obtain ⟨l2, e2⟩ := List.getElem?_eq_some_iff.mp h2
  rw [List.pairwise_iff_getElem] at nd
  rcases Nat.lt_trichotomy i j with z | z | z
  · exact absurd (e1.trans e2.symm) (nd i j l1 l2 z)
  · exact z
  · exact absurd (e2.trans e1.symm) (nd j i l2 l1 z)
theorem zws_P {E : zE} {h : zPH} {H : Heap} {n : Nat} (hh : zhl E h H) : va_P E.1 zcl (zws h n) H := fun k q hk => by
  have hm := zws_mem.mp (List.mem_of_getElem? hk)
  exact hh q.1 q.2 hm.2
theorem zws_at {E : zE} {h : zPH} {H : Heap} {a : Nat} {e : va_E} (hh : zhl E h H) (he : h a = some e) : ∃ q0 : Nat, (zws h H.size)[q0]? = some (a, e) :=
  List.getElem?_of_mem (zws_mem.mpr ⟨(hh a e he).lt, he⟩)
theorem zws_set {E : zE} {h : zPH} {H H1 : Heap} {a q0 : Nat} {e e' : va_E} (hh : zhl E h H) (hq : (zws h H.size)[q0]? = some (a, e)) (hP : va_P E.1 zcl ((zws h H.size).set q0 (a, e')) H1) : zhl E (zpu h a e') H1 := by
  have hl := (List.getElem?_eq_some_iff.mp hq).1
  intro b f hb
  by_cases n : b = a
  · subst n
    rw [zpu_s] at hb
    cases hb
    exact hP q0 _ (by rw [List.getElem?_set_self hl])
  · rw [zpu_n n] at hb
    obtain ⟨j, hj⟩ := zws_at hh hb
    refine hP j _ ?_
    rw [List.getElem?_set_ne (fun z => n (by subst z; rw [hq] at hj; cases hj; rfl))]
    exact hj
theorem zws_push {E : zE} {h : zPH} {H H1 : Heap} {q : Nat} {e : va_E} (hh : zhl E h H) (hP : va_P E.1 zcl (zws h H.size ++ [(q, e)]) H1) : zhl E (zpu h q e) H1 := by
  intro b f hb
  by_cases n : b = q
  · subst n
    rw [zpu_s] at hb
    cases hb
    exact hP (zws h H.size).length _ (by simp)
  · rw [zpu_n n] at hb
    obtain ⟨j, hj⟩ := zws_at hh hb
    refine hP j _ ?_
    rw [List.getElem?_append_left (List.getElem?_eq_some_iff.mp hj).1]
    exact hj
theorem zws_new {E : zE} {h : zPH} {H : Heap} {q : Nat} {e : va_E} {A : Nat → Prop} (hh : zhl E h H) (hD : va_D A (zws h H.size ++ [(q, e)])) : h q = none ∧ A q := by
  refine ⟨?_, hD.2 (zws h H.size).length (q, e) (by simp)⟩
  cases hx : h q with
  | none => rfl
  | some f =>
    obtain ⟨j, hj⟩ := zws_at hh hx
    have hl := (List.getElem?_eq_some_iff.mp hj).1
    have := hD.1 j (zws h H.size).length (q, f) (q, e) (by rw [List.getElem?_append_left hl]; exact hj) (by simp) rfl
    omega
/-- what holds of the tables and of the old heap, at every method's start -/
def zKK (E : zE) (A : Nat → Prop) (U : State) : Prop :=
  (∀ w ∈ zT, w.before #[] U = true) ∧ va_K E.1 zcl (ztys E) U ∧
  (va_Fw "java/util/ArrayList" ⟨"java/util/List", "add", "(Ljava/lang/Object;)Z"⟩ y_AL_add0 U ∧ va_Fw "java/util/ArrayList" ⟨"java/util/List", "size", "()I"⟩ y_AL_size U ∧ va_Fw "java/util/ArrayList" ⟨"java/util/List", "get", "(I)Ljava/lang/Object;"⟩ y_AL_get U ∧ va_Fw "java/util/ArrayList" ⟨"java/util/List", "clear", "()V"⟩ y_AL_clear U) ∧
  va_Z "java/util/ArrayList" "DEFAULTCAPACITY_EMPTY_ELEMENTDATA" "[Ljava/lang/Object;" (.ref (zt0 E)) A U U.heap ∧
  va_T (.object "java/lang/Object") (zt0 E) 0 (fun _ => .null) A U U.heap ∧
  va_Mi "[Ljava/lang/Object;" (zmi E) U ∧ va_AO "java/lang/Object" U ∧ va_AO "PointsToRounds$Thing" U ∧ (∀ a' : Array Value, (Cond.arrayClass .int).before a' U = true)
theorem okw_tab {w : Cond} (h : okw w = true) : w.onTables = true := by
  unfold okw at h
  cases w <;> first | rfl | (simp [Cond.onTables] at h)
theorem okw_warm {w : Cond} (h : okw w = true) {s U : State} (hW : s.WarmedH U.vm) (hs : w.before #[] s = true) : w.before #[] U = true := by
  by_cases hk : (w.onTables && w.keeps) = true
  · exact word_at hW (Or.inl hk) hs
  · unfold okw at h
    cases w <;> first
      | exact va_Nw.warmF hW hs
      | exact va_Nw.warmM hW hs
      | exact va_Nw.warmD hW hs
      | exact va_Nw.warmC hW hs
      | (exfalso; simp [hk] at h; done)
      | (exfalso; revert h hk; simp [Cond.onTables, Cond.keeps, Cond.steady]; done)
theorem zKK_w {E : zE} {A : Nat → Prop} {U : State} (h : zKK E A U) (args : Array Value) : ∀ w ∈ zT, w.before args U = true := fun w hw =>
  va_any (okw_tab (List.mem_filter.mp hw).2) (h.1 w hw)
theorem zKK_mv {E : zE} {A A' : Nat → Prop} {s U : State} {H : Heap} {locs : List Loc} (h : zKK E A s) (hW : s.WarmedH U.vm) (hS : va_S A s.heap H locs) (hU : U.heap = H) (hA : ∀ q, A' q → A q) : zKK E A' U := by
  obtain ⟨h1, h2, ⟨f1, f2, f3, f4⟩, h3, h4, h5, h6, h7, h8⟩ := h
  have hal := hW.alike
  have hh : ∀ a : Nat, a < s.heap.size → ¬ A a → U.heap[a]? = s.heap[a]? := fun a h1 h2 => by rw [hU]; exact hS.2.1 a h1 h2
  refine ⟨fun w hw => okw_warm (List.mem_filter.mp hw).2 hW (h1 w hw), va_K.moved hal h2, ⟨va_Fw.moved (by decide) hal f1, va_Fw.moved (by decide) hal f2, va_Fw.moved (by decide) hal f3, va_Fw.moved (by decide) hal f4⟩, ((h3.moved hal).kept hh).narrow hA, ((h4.moved hal).kept hh).narrow hA, h5.moved hal, h6.moved hal, h7.moved hal, fun a' => word_at hW (Or.inr ⟨_, rfl⟩) (h8 a')⟩
theorem zKK_fr {E : zE} {A : Nat → Prop} {U : State} {g : JFrame} {mk : MethodId} {a : Array Value} (h : zKK E A U) : zKK E A (U.calling g mk a) := by
  obtain ⟨h1, h2, ⟨f1, f2, f3, f4⟩, h3, h4, h5, h6, h7, h8⟩ := h
  have hal : U.vm.Alike (U.calling g mk a).vm := Vm.Alike.refl U.vm
  exact ⟨fun w hw => va_tabs (okw_tab (List.mem_filter.mp hw).2) (u := U) (U := U.calling g mk a) rfl (h1 w hw), va_K.moved hal h2, ⟨va_Fw.moved (by decide) hal f1, va_Fw.moved (by decide) hal f2, va_Fw.moved (by decide) hal f3, va_Fw.moved (by decide) hal f4⟩, h3.moved hal, h4.moved hal, h5.moved hal, h6.moved hal, h7.moved hal, fun a' => h8 a'⟩
/-- a method's end -/
def zQ (E : zE) (h0 : zPH) (sz : Nat) (Po : Option Value → zPH → Prop) : Array Value → State → Outcome → State → Prop := fun _ st oc t => (∃ (v : Option Value) (h' : zPH), oc = .returned v ∧ Po v h' ∧ zhl E h' t.heap ∧ zex h0 sz h') ∧ va_F (zA h0 sz) st t
/-- locals -/
abbrev zL : Type := List (Option Value)
def zlh (ls : Array Slot) (nL : Nat) (L : zL) : Prop := lv_has ls nL [] ∧ ∀ (i : Nat) (v : Value), L[i]? = some (some v) → ls[i]? = some (.val v) ∧ v.category = 1
def zpr (L : zL) : List (Nat × Value) := (List.range L.length).filterMap (fun i => (L[i]?.getD none).map (fun v => (i, v)))
theorem zlh_has {ls : Array Slot} {nL : Nat} {L : zL} (h : zlh ls nL L) : lv_has ls nL (zpr L) := by
  refine ⟨h.1.1, h.1.2.1, fun q hq => ?_⟩
  obtain ⟨i, -, hi⟩ := List.mem_filterMap.mp hq
  cases hx : L[i]? with
  | none => rw [hx] at hi; cases hi
  | some o =>
    cases o with
    | none => rw [hx] at hi; cases hi
    | some v =>
      rw [hx] at hi
      cases hi
      exact (h.2 i v hx).1
theorem zlh_store {ls ls' : Array Slot} {nL : Nat} {L : zL} {i : Nat} {v : Value} (h0 : zlh ls nL L) (hv : v.category = 1) (h : lv_has ls' nL ((i, v) :: (zpr L).filter (fun q => !(q.1 == i) && !(q.1 + 1 == i && q.2.category == 2)))) : zlh ls' nL (L.set i (some v)) := by
  refine ⟨⟨h.1, h.2.1, fun q hq => by cases hq⟩, fun j x hj => ?_⟩
  by_cases hij : j = i
  · subst hij
    have hl : j < L.length := by
      have := (List.getElem?_eq_some_iff.mp hj).1
      simpa using this
    rw [List.getElem?_set_self hl] at hj
    cases hj
    exact ⟨h.2.2 (j, v) List.mem_cons_self, hv⟩
  · rw [List.getElem?_set_ne (Ne.symm hij)] at hj
    have h2 := (h0.2 j x hj).2
    refine ⟨h.2.2 (j, x) (List.mem_cons_of_mem _ (List.mem_filter.mpr ⟨List.mem_filterMap.mpr ⟨j, List.mem_range.mpr (List.getElem?_eq_some_iff.mp hj).1, by rw [hj]; rfl⟩, ?_⟩)), h2⟩
    simp [hij, h2]
theorem zlh_pos {L : zL} {i : Nat} {v : Value} (h : L[i]? = some (some v)) : ∃ j : Nat, (zpr L)[j]? = some (i, v) :=
  List.getElem?_of_mem (List.mem_filterMap.mpr ⟨i, List.mem_range.mpr (List.getElem?_eq_some_iff.mp h).1, by rw [h]; rfl⟩)
/-- the numbers of a method's walk: machine, code, room, start, end -/
abbrev zC : Type := (Launch × zE) × (ByteArray × String × Nat × Option FieldType × Bool) × Room × (zPH × Nat) × (State → Prop) × (List Frame → Array Value → State → State → Prop)
abbrev zC.l (C : zC) : Launch := C.1.1
abbrev zC.E (C : zC) : zE := C.1.2
abbrev zC.cc (C : zC) : ByteArray := C.2.1.1
abbrev zC.own (C : zC) : String := C.2.1.2.1
abbrev zC.nL (C : zC) : Nat := C.2.1.2.2.1
abbrev zC.ret (C : zC) : Option FieldType := C.2.1.2.2.2.1
abbrev zC.ini (C : zC) : Bool := C.2.1.2.2.2.2
abbrev zC.R (C : zC) : Room := C.2.2.1
abbrev zC.h0 (C : zC) : zPH := C.2.2.2.1.1
abbrev zC.sz (C : zC) : Nat := C.2.2.2.1.2
abbrev zC.X (C : zC) : State → Prop := C.2.2.2.2.1
abbrev zC.Q (C : zC) : List Frame → Array Value → State → State → Prop := C.2.2.2.2.2
def zcx (l : Launch) (E : zE) (cc : ByteArray) (own : String) (nL : Nat) (ret : Option FieldType) (ini : Bool) (R : Room) (h0 : zPH) (sz : Nat) (Po : Option Value → zPH → Prop) : zC :=
  ((l, E), (cc, own, nL, ret, ini), R, (h0, sz), (fun _ => True), fun below args s => MQ below (zQ E h0 sz Po) args s R.cells R.slots (zA h0 sz))
def zFX (C : zC) (p : Program) (s : State) (m : MethodId) (meth : Method) (c : Code) : Prop :=
  p.tables.exec = Jvm.exec ∧ c.code = C.cc ∧ c.maxLocals = C.nL ∧ meth.sig.returnType = C.ret ∧ meth.locks = false ∧ s.vm.findClass C.own = some m.cls ∧ (C.ini = true → meth.name = "<init>") ∧ s.heap.size = C.sz ∧ zKK C.E (zA C.h0 C.sz) s ∧ C.X s
def zG (C : zC) (k n pc : Nat) (L : zL) (st : List Value) (h : zPH) : Prop :=
  ∀ (p : Program) (e : Env) (s : State) (m : MethodId) (args : Array Value) (below : List Frame) (meth : Method) (c : Code) (H : Heap) (locs : List Loc) (ls : Array Slot),
    zFX C p s m meth c → va_S (zA C.h0 C.sz) s.heap H locs → zhl C.E h H → zex C.h0 C.sz h → zlh ls C.nL L →
    W p C.l e C.R s m args below meth c H locs k n (C.Q below args s) (F0 m pc ls st)
