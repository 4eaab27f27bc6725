/-! the twin's methods -/
def und (X : zSt) : Nat → Int32 → Int32 → Bool
  | 0, _, _ => false
  | f + 1, c, a => if c < 0 then false else if c = a then true else und X f (X 1 c.toNatClampNeg) a
def mwf (X : zSt) (c g : Int32) : Nat → Nat → Int32
  | 0, _ => -1
  | k + 1, j => if X 5 j = c then (if X 6 j = g then nI j else mwf X c g k (j + 1)) else mwf X c g k (j + 1)
def tMw (X : zSt) (c g : Int32) : Int32 := mwf X c g (cn X 4) 0
def fdf (X : zSt) (g : Int32) : Nat → Int32 → Int32
  | 0, _ => -1
  | f + 1, c => if c < 0 then -1 else if tMw X c g < 0 then fdf X g f (X 1 c.toNatClampNeg) else tMw X c g
def tFg (X : zSt) : zSt := va_up (va_up (va_up (va_up X 32 (fun _ => nI 0)) 37 (fun _ => nI 0)) 43 (fun _ => nI 0)) 42 (fun j => if j < 60 then nI 0 else X 42 j)
def tCh (X : zSt) : zSt := tFg (va_up X 19 (fun _ => nI 0))
def tCls (X : zSt) (p : Int32) : Int32 × zSt := if p < -1 then (-1, X) else if p < nI (cn X 0) then (if nI (cn X 0) = nI 8 then (-4, X) else (nI (cn X 0), tCh (va_up (va_up X 1 (upd (X 1) (cn X 0) p)) 0 (fun _ => nI (cn X 0 + 1))))) else (-1, X)
def tFld (X : zSt) (c : Int32) : Int32 × zSt := if tIn c (X 0 0) = true then (if nI (cn X 2) = nI 8 then (-4, X) else (nI (cn X 2), tCh (va_up (va_up X 3 (upd (X 3) (cn X 2) c)) 2 (fun _ => nI (cn X 2 + 1))))) else (-1, X)
def tMth (X : zSt) (c g : Int32) : Int32 × zSt := if tIn c (X 0 0) = true then (if g < 0 then (-2, X) else if g ≤ nI 3 then (if tMw X c g < 0 then (if nI (cn X 4) = nI 10 then (-4, X) else (nI (cn X 4), tCh (va_up (va_up (va_up X 5 (upd (X 5) (cn X 4) c)) 6 (upd (X 6) (cn X 4) g)) 4 (fun _ => nI (cn X 4 + 1))))) else (-3, X)) else (-2, X)) else (-1, X)
def tMode (X : zSt) (m : Int32) : Int32 × zSt := if m < 0 then (-2, X) else if m ≤ nI 1 then (X 18 0, tCh (va_up X 18 (fun _ => m))) else (-2, X)
def tClr (X : zSt) : Int32 × zSt := (X 7 0, tCh (va_up (va_up (va_up (va_up (va_up X 0 (fun _ => nI 0)) 2 (fun _ => nI 0)) 4 (fun _ => nI 0)) 7 (fun _ => nI 0)) 16 (fun _ => nI 0)))
abbrev rm_M_isClass : Room := { frames := 0, cells := 0, slots := 0, locals := 0 }
set_option maxHeartbeats 4000000 in
set_option maxRecDepth 100000 in
theorem c_M_isClass (l : Launch) (E : zE) {A : Nat → Nat} (hA : tmI A) (X : zSt) (c : Int32) : zM l E y_M_isClass b_M_isClass 2 ((some .boolean)) rm_M_isClass [.ref (A 44), .int c] (tp E A X) (zPi (bI (tIn c (X 0 0))) (tp E A X)) := by
  refine zM_w (by decide +kernel) rfl rfl (fun sz => ?_)
  refine z_iload_n d_M_isClass_0 rfl ?_
  refine z_if_lt (tgt := 16) d_M_isClass_1 (by decide) (fun c1 => ?_) (fun c1 => ?_)
  · refine z_iconst d_M_isClass_16 ic_0 ?_
    exact z_zret rfl nz_0 d_M_isClass_17 (zlq rfl) (zlq rfl) (⟨by simp [tIn, bI, nI_0, nI_one, *], rfl⟩)
  · refine z_iload_n d_M_isClass_4 rfl ?_
    refine z_aload_n d_M_isClass_5 rfl ?_
    refine z_get fa_M_109 d_M_isClass_6 (tp_o hA) rfl ?_
    refine z_icmp_ge (tgt := 16) d_M_isClass_9 (by decide) (fun c9 => ?_) (fun c9 => ?_)
    · refine z_iconst d_M_isClass_16 ic_0 ?_
      exact z_zret rfl nz_0 d_M_isClass_17 (zlq rfl) (zlq rfl) (⟨by simp [tIn, bI, nI_0, nI_one, *], rfl⟩)
    · refine z_iconst d_M_isClass_12 ic_1 ?_
      refine z_goto (tgt := 17) d_M_isClass_13 (by decide) ?_
      exact z_zret rfl nz_1 d_M_isClass_17 (zlq rfl) (zlq rfl) (⟨by simp [tIn, bI, nI_0, nI_one, *], rfl⟩)
abbrev rm_M_isField : Room := { frames := 0, cells := 0, slots := 0, locals := 0 }
set_option maxHeartbeats 4000000 in
set_option maxRecDepth 100000 in
theorem c_M_isField (l : Launch) (E : zE) {A : Nat → Nat} (hA : tmI A) (X : zSt) (c : Int32) : zM l E y_M_isField b_M_isField 2 ((some .boolean)) rm_M_isField [.ref (A 44), .int c] (tp E A X) (zPi (bI (tIn c (X 2 0))) (tp E A X)) := by
  refine zM_w (by decide +kernel) rfl rfl (fun sz => ?_)
  refine z_iload_n d_M_isField_0 rfl ?_
  refine z_if_lt (tgt := 16) d_M_isField_1 (by decide) (fun c1 => ?_) (fun c1 => ?_)
  · refine z_iconst d_M_isField_16 ic_0 ?_
    exact z_zret rfl nz_0 d_M_isField_17 (zlq rfl) (zlq rfl) (⟨by simp [tIn, bI, nI_0, nI_one, *], rfl⟩)
  · refine z_iload_n d_M_isField_4 rfl ?_
    refine z_aload_n d_M_isField_5 rfl ?_
    refine z_get fa_M_113 d_M_isField_6 (tp_o hA) rfl ?_
    refine z_icmp_ge (tgt := 16) d_M_isField_9 (by decide) (fun c9 => ?_) (fun c9 => ?_)
    · refine z_iconst d_M_isField_16 ic_0 ?_
      exact z_zret rfl nz_0 d_M_isField_17 (zlq rfl) (zlq rfl) (⟨by simp [tIn, bI, nI_0, nI_one, *], rfl⟩)
    · refine z_iconst d_M_isField_12 ic_1 ?_
      refine z_goto (tgt := 17) d_M_isField_13 (by decide) ?_
      exact z_zret rfl nz_1 d_M_isField_17 (zlq rfl) (zlq rfl) (⟨by simp [tIn, bI, nI_0, nI_one, *], rfl⟩)
abbrev rm_M_isMethod : Room := { frames := 0, cells := 0, slots := 0, locals := 0 }
set_option maxHeartbeats 4000000 in
set_option maxRecDepth 100000 in
theorem c_M_isMethod (l : Launch) (E : zE) {A : Nat → Nat} (hA : tmI A) (X : zSt) (c : Int32) : zM l E y_M_isMethod b_M_isMethod 2 ((some .boolean)) rm_M_isMethod [.ref (A 44), .int c] (tp E A X) (zPi (bI (tIn c (X 4 0))) (tp E A X)) := by
  refine zM_w (by decide +kernel) rfl rfl (fun sz => ?_)
  refine z_iload_n d_M_isMethod_0 rfl ?_
  refine z_if_lt (tgt := 16) d_M_isMethod_1 (by decide) (fun c1 => ?_) (fun c1 => ?_)
  · refine z_iconst d_M_isMethod_16 ic_0 ?_
    exact z_zret rfl nz_0 d_M_isMethod_17 (zlq rfl) (zlq rfl) (⟨by simp [tIn, bI, nI_0, nI_one, *], rfl⟩)
  · refine z_iload_n d_M_isMethod_4 rfl ?_
    refine z_aload_n d_M_isMethod_5 rfl ?_
    refine z_get fa_M_116 d_M_isMethod_6 (tp_o hA) rfl ?_
    refine z_icmp_ge (tgt := 16) d_M_isMethod_9 (by decide) (fun c9 => ?_) (fun c9 => ?_)
    · refine z_iconst d_M_isMethod_16 ic_0 ?_
      exact z_zret rfl nz_0 d_M_isMethod_17 (zlq rfl) (zlq rfl) (⟨by simp [tIn, bI, nI_0, nI_one, *], rfl⟩)
    · refine z_iconst d_M_isMethod_12 ic_1 ?_
      refine z_goto (tgt := 17) d_M_isMethod_13 (by decide) ?_
      exact z_zret rfl nz_1 d_M_isMethod_17 (zlq rfl) (zlq rfl) (⟨by simp [tIn, bI, nI_0, nI_one, *], rfl⟩)
abbrev rm_M_isSite : Room := { frames := 0, cells := 0, slots := 0, locals := 0 }
set_option maxHeartbeats 4000000 in
set_option maxRecDepth 100000 in
theorem c_M_isSite (l : Launch) (E : zE) {A : Nat → Nat} (hA : tmI A) (X : zSt) (c : Int32) : zM l E y_M_isSite b_M_isSite 2 ((some .boolean)) rm_M_isSite [.ref (A 44), .int c] (tp E A X) (zPi (bI (tIn c (X 16 0))) (tp E A X)) := by
  refine zM_w (by decide +kernel) rfl rfl (fun sz => ?_)
  refine z_iload_n d_M_isSite_0 rfl ?_
  refine z_if_lt (tgt := 16) d_M_isSite_1 (by decide) (fun c1 => ?_) (fun c1 => ?_)
  · refine z_iconst d_M_isSite_16 ic_0 ?_
    exact z_zret rfl nz_0 d_M_isSite_17 (zlq rfl) (zlq rfl) (⟨by simp [tIn, bI, nI_0, nI_one, *], rfl⟩)
  · refine z_iload_n d_M_isSite_4 rfl ?_
    refine z_aload_n d_M_isSite_5 rfl ?_
    refine z_get fa_M_160 d_M_isSite_6 (tp_o hA) rfl ?_
    refine z_icmp_ge (tgt := 16) d_M_isSite_9 (by decide) (fun c9 => ?_) (fun c9 => ?_)
    · refine z_iconst d_M_isSite_16 ic_0 ?_
      exact z_zret rfl nz_0 d_M_isSite_17 (zlq rfl) (zlq rfl) (⟨by simp [tIn, bI, nI_0, nI_one, *], rfl⟩)
    · refine z_iconst d_M_isSite_12 ic_1 ?_
      refine z_goto (tgt := 17) d_M_isSite_13 (by decide) ?_
      exact z_zret rfl nz_1 d_M_isSite_17 (zlq rfl) (zlq rfl) (⟨by simp [tIn, bI, nI_0, nI_one, *], rfl⟩)
abbrev rm_M_isName : Room := { frames := 0, cells := 0, slots := 0, locals := 0 }
set_option maxHeartbeats 4000000 in
set_option maxRecDepth 100000 in
theorem c_M_isName (l : Launch) (E : zE) (h : zPH) (c : Int32) : zM l E y_M_isName b_M_isName 1 ((some .boolean)) rm_M_isName [.int c] (h) (zPi (bI (tIn c (nI 6))) h) := by
  refine zM_w (by decide +kernel) rfl rfl (fun sz => ?_)
  refine z_iload_n d_M_isName_0 rfl ?_
  refine z_if_lt (tgt := 14) d_M_isName_1 (by decide) (fun c1 => ?_) (fun c1 => ?_)
  · refine z_iconst d_M_isName_14 ic_0 ?_
    exact z_zret rfl nz_0 d_M_isName_15 (zlq rfl) (zlq rfl) (⟨by simp [tIn, bI, nI_0, nI_one, *], rfl⟩)
  · refine z_iload_n d_M_isName_4 rfl ?_
    refine z_bipush d_M_isName_5 bp_6 ?_
    refine z_icmp_ge (tgt := 14) d_M_isName_7 (by decide) (fun c7 => ?_) (fun c7 => ?_)
    · refine z_iconst d_M_isName_14 ic_0 ?_
      exact z_zret rfl nz_0 d_M_isName_15 (zlq rfl) (zlq rfl) (⟨by simp [tIn, bI, nI_0, nI_one, *], rfl⟩)
    · refine z_iconst d_M_isName_10 ic_1 ?_
      refine z_goto (tgt := 15) d_M_isName_11 (by decide) ?_
      exact z_zret rfl nz_1 d_M_isName_15 (zlq rfl) (zlq rfl) (⟨by simp [tIn, bI, nI_0, nI_one, *], rfl⟩)
abbrev rm_M_isStatic : Room := { frames := 0, cells := 0, slots := 0, locals := 0 }
set_option maxHeartbeats 4000000 in
set_option maxRecDepth 100000 in
theorem c_M_isStatic (l : Launch) (E : zE) (h : zPH) (c : Int32) : zM l E y_M_isStatic b_M_isStatic 1 ((some .boolean)) rm_M_isStatic [.int c] (h) (zPi (bI (tIn c (nI 4))) h) := by
  refine zM_w (by decide +kernel) rfl rfl (fun sz => ?_)
  refine z_iload_n d_M_isStatic_0 rfl ?_
  refine z_if_lt (tgt := 13) d_M_isStatic_1 (by decide) (fun c1 => ?_) (fun c1 => ?_)
  · refine z_iconst d_M_isStatic_13 ic_0 ?_
    exact z_zret rfl nz_0 d_M_isStatic_14 (zlq rfl) (zlq rfl) (⟨by simp [tIn, bI, nI_0, nI_one, *], rfl⟩)
  · refine z_iload_n d_M_isStatic_4 rfl ?_
    refine z_iconst d_M_isStatic_5 ic_4 ?_
    refine z_icmp_ge (tgt := 13) d_M_isStatic_6 (by decide) (fun c6 => ?_) (fun c6 => ?_)
    · refine z_iconst d_M_isStatic_13 ic_0 ?_
      exact z_zret rfl nz_0 d_M_isStatic_14 (zlq rfl) (zlq rfl) (⟨by simp [tIn, bI, nI_0, nI_one, *], rfl⟩)
    · refine z_iconst d_M_isStatic_9 ic_1 ?_
      refine z_goto (tgt := 14) d_M_isStatic_10 (by decide) ?_
      exact z_zret rfl nz_1 d_M_isStatic_14 (zlq rfl) (zlq rfl) (⟨by simp [tIn, bI, nI_0, nI_one, *], rfl⟩)
abbrev rm_M_nameAt : Room := { frames := 0, cells := 0, slots := 0, locals := 0 }
set_option maxHeartbeats 4000000 in
set_option maxRecDepth 100000 in
theorem c_M_nameAt (l : Launch) (E : zE) (h : zPH) (m c n : Nat) : zM l E y_M_nameAt b_M_nameAt 3 ((some .int)) rm_M_nameAt [.int (nI m), .int (nI c), .int (nI n)] (h) (zPi (nI (126 * m + 6 * c + n)) h) := by
  refine zM_w (by decide +kernel) rfl rfl (fun sz => ?_)
  refine z_bipush d_M_nameAt_0 bp_126 ?_
  refine z_iload_n d_M_nameAt_2 rfl ?_
  refine z_imul d_M_nameAt_3 ?_
  refine z_top (pk_mul (126) (m)) ?_
  refine z_bipush d_M_nameAt_4 bp_6 ?_
  refine z_iload_n d_M_nameAt_6 rfl ?_
  refine z_imul d_M_nameAt_7 ?_
  refine z_top (pk_mul (6) (c)) ?_
  refine z_iadd d_M_nameAt_8 ?_
  refine z_top (nI_add (126 * m) (6 * c)) ?_
  refine z_iload_n d_M_nameAt_9 rfl ?_
  refine z_iadd d_M_nameAt_10 ?_
  refine z_top (nI_add (126 * m + (6 * c)) (n)) ?_
  exact z_iret rfl d_M_nameAt_11 (zlq rfl) (zlq rfl) (⟨rfl, rfl⟩)
abbrev rm_M_isUnder : Room := { frames := 0, cells := 0, slots := 0, locals := 0 }
set_option maxHeartbeats 4000000 in
set_option maxRecDepth 100000 in
/-- isUnder: along the parents -/
theorem c_M_isUnder (l : Launch) (E : zE) {A : Nat → Nat} (hA : tmI A) (X : zSt) (hX : tInv X) (c a : Int32) (hc : c = -1 ∨ ∃ j, j < cn X 0 ∧ c = nI j) : zM l E y_M_isUnder b_M_isUnder 4 ((some .boolean)) rm_M_isUnder [.ref (A 44), .int c, .int a] (tp E A X) (zPi (bI (und X 9 c a)) (tp E A X)) := by
  refine zM_w (by decide +kernel) rfl rfl (fun sz => ?_)
  obtain ⟨⟨⟨h0, b0⟩, ⟨h2, b2⟩, ⟨h4, b4⟩, ⟨h7, b7⟩, ⟨h16, b16⟩⟩, h18, h19, hp, hf, hs, hst⟩ := id hX
  have lp : ∀ (f : Nat) (x : Int32), (x = -1 ∨ ∃ j, j < f ∧ j < cn X 0 ∧ x = nI j) → und X f x a = und X 9 c a → zG (zcx l E b_M_isUnder "PointsToRoundsModel" 4 ((some .boolean)) false rm_M_isUnder (tp E A X) sz (zPi (bI (und X 9 c a)) (tp E A X))) 0 0 2 [some (.ref (A 44)), some (.int c), some (.int a), some (.int (x))] [] (tp E A X) := by
    intro f
    induction f with
    | zero =>
      intro x hx hv
      rcases hx with rfl | ⟨j, hj, -⟩
      · refine z_iload_n d_M_isUnder_2 rfl ?_
        refine z_if_lt (tgt := 21) d_M_isUnder_3 (by decide) (fun _ => ?_) (fun q => absurd zneg q)
        refine z_iload_n d_M_isUnder_21 rfl ?_
        refine z_if_lt (tgt := 29) d_M_isUnder_22 (by decide) (fun _ => ?_) (fun q => absurd zneg q)
        refine z_iconst d_M_isUnder_29 ic_0 ?_
        exact z_zret rfl nz_0 d_M_isUnder_30 (zlq rfl) (zlq rfl) (⟨by rw [← hv]; rfl, rfl⟩)
      · omega
    | succ f ih =>
      intro x hx hv
      rcases hx with rfl | ⟨j, hj, hj2, rfl⟩
      · refine z_iload_n d_M_isUnder_2 rfl ?_
        refine z_if_lt (tgt := 21) d_M_isUnder_3 (by decide) (fun _ => ?_) (fun q => absurd zneg q)
        refine z_iload_n d_M_isUnder_21 rfl ?_
        refine z_if_lt (tgt := 29) d_M_isUnder_22 (by decide) (fun _ => ?_) (fun q => absurd zneg q)
        refine z_iconst d_M_isUnder_29 ic_0 ?_
        exact z_zret rfl nz_0 d_M_isUnder_30 (zlq rfl) (zlq rfl) (⟨by rw [← hv]; unfold und; rw [if_pos zneg]; rfl, rfl⟩)
      · refine z_iload_n d_M_isUnder_2 rfl ?_
        refine z_if_lt (tgt := 21) d_M_isUnder_3 (by decide) (fun q => absurd q (nI_pos (by omega))) (fun _ => ?_)
        refine z_iload_n d_M_isUnder_6 rfl ?_
        refine z_iload_n d_M_isUnder_7 rfl ?_
        refine z_icmp_eq (tgt := 21) d_M_isUnder_8 (by decide) (fun c8 => ?_) (fun c8 => ?_)
        · refine z_iload_n d_M_isUnder_21 rfl ?_
          refine z_if_lt (tgt := 29) d_M_isUnder_22 (by decide) (fun q => absurd q (nI_pos (by omega))) (fun _ => ?_)
          refine z_iconst d_M_isUnder_25 ic_1 ?_
          refine z_goto (tgt := 30) d_M_isUnder_26 (by decide) ?_
          exact z_zret rfl nz_1 d_M_isUnder_30 (zlq rfl) (zlq rfl) (⟨by rw [← hv, und, if_neg (nI_pos (by omega)), if_pos c8]; rfl, rfl⟩)
        · refine z_aload_n d_M_isUnder_11 rfl ?_
          refine z_get fa_M_7 d_M_isUnder_12 (tp_o hA) rfl ?_
          refine z_iload_n d_M_isUnder_15 rfl ?_
          refine z_iald (j) d_M_isUnder_16 (tp_a hA 1 rfl) rfl (show j < 8 from by omega) (by decide) ?_
          refine z_istore_n d_M_isUnder_17 (zlt rfl) ?_
          refine z_goto (tgt := 2) d_M_isUnder_18 (by decide) ?_
          refine ih _ ?_ ?_
          · rcases hp j hj2 with q | ⟨q, q1, q2⟩
            · exact Or.inl q
            · exact Or.inr ⟨q, by omega, by omega, q2⟩
          · rw [← hv, und, if_neg (nI_pos (by omega)), if_neg c8, nI_clamp (by omega)]
  refine z_iload_n d_M_isUnder_0 rfl ?_
  refine z_istore_n d_M_isUnder_1 (zlt rfl) ?_
  refine lp 9 c ?_ rfl
  rcases hc with q | ⟨j, j1, j2⟩
  · exact Or.inl q
  · exact Or.inr ⟨j, by omega, j1, j2⟩
abbrev rm_M_hasField : Room := { frames := 1, cells := 0, slots := 0, locals := 23 }
set_option maxHeartbeats 4000000 in
set_option maxRecDepth 100000 in
theorem c_M_hasField (l : Launch) (E : zE) {A : Nat → Nat} (hA : tmI A) (X : zSt) (hX : tInv X) (o f : Nat) (ho : o < cn X 16) (hf0 : f < cn X 2) : zM l E y_M_hasField b_M_hasField 3 ((some .boolean)) rm_M_hasField [.ref (A 44), .int (nI o), .int (nI f)] (tp E A X) (zPi (bI (und X 9 (X 17 o) (X 3 f))) (tp E A X)) := by
  refine zM_w (by decide +kernel) rfl rfl (fun sz => ?_)
  obtain ⟨⟨⟨h0, b0⟩, ⟨h2, b2⟩, ⟨h4, b4⟩, ⟨h7, b7⟩, ⟨h16, b16⟩⟩, h18, h19, hp, hf, hs, hst⟩ := id hX
  refine z_aload_n d_M_hasField_0 rfl ?_
  refine z_aload_n d_M_hasField_1 rfl ?_
  refine z_get fa_M_46 d_M_hasField_2 (tp_o hA) rfl ?_
  refine z_iload_n d_M_hasField_5 rfl ?_
  refine z_iald (o) d_M_hasField_6 (tp_a hA 17 rfl) rfl (show o < 20 from by omega) (by decide) ?_
  refine z_aload_n d_M_hasField_7 rfl ?_
  refine z_get fa_M_13 d_M_hasField_8 (tp_o hA) rfl ?_
  refine z_iload_n d_M_hasField_11 rfl ?_
  refine z_iald (f) d_M_hasField_12 (tp_a hA 3 rfl) rfl (show f < 8 from by omega) (by decide) ?_
  refine z_cVi (c_M_isUnder l E hA _ hX (X 17 (o)) (X 3 (f)) (Or.inr (hs o ho))) cb_M_isUnder ci_M_isUnder ln_M_119 (tp_o hA) rfl rfl (zlq rfl) rfl (zlq rfl) (zlq rfl) d_M_hasField_13 ?_
  exact z_zret rfl (bI_z _) d_M_hasField_16 (zlq rfl) (zlq rfl) (⟨rfl, rfl⟩)
abbrev rm_M_methodWith : Room := { frames := 0, cells := 0, slots := 0, locals := 0 }
set_option maxHeartbeats 4000000 in
set_option maxRecDepth 100000 in
/-- methodWith: the first of a class and a signature -/
theorem c_M_methodWith (l : Launch) (E : zE) {A : Nat → Nat} (hA : tmI A) (X : zSt) (hX : tInv X) (c g : Int32) : zM l E y_M_methodWith b_M_methodWith 4 ((some .int)) rm_M_methodWith [.ref (A 44), .int c, .int g] (tp E A X) (zPi (tMw X c g) (tp E A X)) := by
  refine zM_w (by decide +kernel) rfl rfl (fun sz => ?_)
  obtain ⟨⟨⟨h0, b0⟩, ⟨h2, b2⟩, ⟨h4, b4⟩, ⟨h7, b7⟩, ⟨h16, b16⟩⟩, h18, h19, hp, hf, hs, hst⟩ := id hX
  have lp : ∀ (k j : Nat), j + k = cn X 4 → mwf X c g k j = tMw X c g → zG (zcx l E b_M_methodWith "PointsToRoundsModel" 4 ((some .int)) false rm_M_methodWith (tp E A X) sz (zPi (tMw X c g) (tp E A X))) 0 0 2 [some (.ref (A 44)), some (.int c), some (.int g), some (.int (nI j))] [] (tp E A X) := by
    intro k
    induction k with
    | zero =>
      intro j hj hv
      refine z_iload_n d_M_methodWith_2 rfl ?_
      refine z_aload_n d_M_methodWith_3 rfl ?_
      refine z_get fa_M_116 d_M_methodWith_4 (tp_o hA) rfl ?_
      refine z_top h4 ?_
      refine z_icmp_ge (tgt := 38) d_M_methodWith_7 (by decide) (fun c7 => ?_) (fun c7 => absurd (nI_le (by omega) (by omega)) c7)
      have c7n := (nI_leI (by omega) (by omega)).mp c7
      refine z_iconst (v := -1) d_M_methodWith_38 ic_m1 ?_
      exact z_iret rfl d_M_methodWith_39 (zlq rfl) (zlq rfl) (⟨by rw [← hv]; rfl, rfl⟩)
    | succ k ih =>
      intro j hj hv
      refine z_iload_n d_M_methodWith_2 rfl ?_
      refine z_aload_n d_M_methodWith_3 rfl ?_
      refine z_get fa_M_116 d_M_methodWith_4 (tp_o hA) rfl ?_
      refine z_top h4 ?_
      refine z_icmp_ge (tgt := 38) d_M_methodWith_7 (by decide) (fun c7 => absurd c7 (nI_ge (by omega) (by omega))) (fun c7 => ?_)
      have c7n := (not_congr (nI_leI (by omega) (by omega))).mp c7
      refine z_aload_n d_M_methodWith_10 rfl ?_
      refine z_get fa_M_16 d_M_methodWith_11 (tp_o hA) rfl ?_
      refine z_iload_n d_M_methodWith_14 rfl ?_
      refine z_iald (j) d_M_methodWith_15 (tp_a hA 5 rfl) rfl (show j < 10 from by omega) (by decide) ?_
      refine z_iload_n d_M_methodWith_16 rfl ?_
      refine z_icmp_ne (tgt := 32) d_M_methodWith_17 (by decide) (fun c17 => ?_) (fun c17 => ?_)
      · refine z_iinc (v := nI (j + 1)) d_M_methodWith_32 (zlt rfl) rfl (zinc _) ?_
        refine z_goto (tgt := 2) d_M_methodWith_35 (by decide) ?_
        exact ih _ (by omega) (by rw [← hv, mwf, if_neg c17])
      · refine z_aload_n d_M_methodWith_20 rfl ?_
        refine z_get fa_M_19 d_M_methodWith_21 (tp_o hA) rfl ?_
        refine z_iload_n d_M_methodWith_24 rfl ?_
        refine z_iald (j) d_M_methodWith_25 (tp_a hA 6 rfl) rfl (show j < 10 from by omega) (by decide) ?_
        refine z_iload_n d_M_methodWith_26 rfl ?_
        refine z_icmp_ne (tgt := 32) d_M_methodWith_27 (by decide) (fun c27 => ?_) (fun c27 => ?_)
        · refine z_iinc (v := nI (j + 1)) d_M_methodWith_32 (zlt rfl) rfl (zinc _) ?_
          refine z_goto (tgt := 2) d_M_methodWith_35 (by decide) ?_
          exact ih _ (by omega) (by rw [← hv, mwf, if_pos c17, if_neg c27])
        · refine z_iload_n d_M_methodWith_30 rfl ?_
          exact z_iret rfl d_M_methodWith_31 (zlq rfl) (zlq rfl) (⟨by rw [← hv, mwf, if_pos c17, if_pos c27], rfl⟩)
  refine z_iconst d_M_methodWith_0 ic_0 ?_
  refine z_istore_n d_M_methodWith_1 (zlt rfl) ?_
  exact lp _ 0 (by omega) rfl
abbrev rm_M_found : Room := { frames := 1, cells := 0, slots := 0, locals := 23 }
set_option maxHeartbeats 4000000 in
set_option maxRecDepth 100000 in
/-- found: the method for a class and a signature, up the parents -/
theorem c_M_found (l : Launch) (E : zE) {A : Nat → Nat} (hA : tmI A) (X : zSt) (hX : tInv X) (c g : Int32) (hc : c = -1 ∨ ∃ j, j < cn X 0 ∧ c = nI j) : zM l E y_M_found b_M_found 5 ((some .int)) rm_M_found [.ref (A 44), .int c, .int g] (tp E A X) (zPi (fdf X g 9 c) (tp E A X)) := by
  refine zM_w (by decide +kernel) rfl rfl (fun sz => ?_)
  obtain ⟨⟨⟨h0, b0⟩, ⟨h2, b2⟩, ⟨h4, b4⟩, ⟨h7, b7⟩, ⟨h16, b16⟩⟩, h18, h19, hp, hf, hs, hst⟩ := id hX
  have lp : ∀ (f : Nat) (x : Int32) (z : Option Value), (x = -1 ∨ ∃ j, j < f ∧ j < cn X 0 ∧ x = nI j) → fdf X g f x = fdf X g 9 c → zG (zcx l E b_M_found "PointsToRoundsModel" 5 ((some .int)) false rm_M_found (tp E A X) sz (zPi (fdf X g 9 c) (tp E A X))) 0 0 2 [some (.ref (A 44)), some (.int c), some (.int g), some (.int x), z] [] (tp E A X) := by
    intro f
    induction f with
    | zero =>
      intro x z hx hv
      rcases hx with rfl | ⟨j, hj, -⟩
      · refine z_iload_n d_M_found_2 rfl ?_
        refine z_if_lt (tgt := 32) d_M_found_3 (by decide) (fun _ => ?_) (fun q => absurd zneg q)
        refine z_iconst (v := -1) d_M_found_32 ic_m1 ?_
        exact z_iret rfl d_M_found_33 (zlq rfl) (zlq rfl) (⟨by rw [← hv]; rfl, rfl⟩)
      · omega
    | succ f ih =>
      intro x z hx hv
      rcases hx with rfl | ⟨j, hj, hj2, rfl⟩
      · refine z_iload_n d_M_found_2 rfl ?_
        refine z_if_lt (tgt := 32) d_M_found_3 (by decide) (fun _ => ?_) (fun q => absurd zneg q)
        refine z_iconst (v := -1) d_M_found_32 ic_m1 ?_
        exact z_iret rfl d_M_found_33 (zlq rfl) (zlq rfl) (⟨by rw [← hv, fdf, if_pos zneg], rfl⟩)
      · refine z_iload_n d_M_found_2 rfl ?_
        refine z_if_lt (tgt := 32) d_M_found_3 (by decide) (fun q => absurd q (nI_pos (by omega))) (fun _ => ?_)
        refine z_aload_n d_M_found_6 rfl ?_
        refine z_iload_n d_M_found_7 rfl ?_
        refine z_iload_n d_M_found_8 rfl ?_
        refine z_cVi (c_M_methodWith l E hA _ hX (nI (j)) (g)) cb_M_methodWith ci_M_methodWith ln_M_123 (tp_o hA) rfl rfl (zlq rfl) rfl (zlq rfl) (zlq rfl) d_M_found_9 ?_
        refine z_istore d_M_found_12 (zlt rfl) ?_
        refine z_iload d_M_found_14 rfl ?_
        refine z_if_lt (tgt := 22) d_M_found_16 (by decide) (fun c16 => ?_) (fun c16 => ?_)
        · refine z_aload_n d_M_found_22 rfl ?_
          refine z_get fa_M_7 d_M_found_23 (tp_o hA) rfl ?_
          refine z_iload_n d_M_found_26 rfl ?_
          refine z_iald (j) d_M_found_27 (tp_a hA 1 rfl) rfl (show j < 8 from by omega) (by decide) ?_
          refine z_istore_n d_M_found_28 (zlt rfl) ?_
          refine z_goto (tgt := 2) d_M_found_29 (by decide) ?_
          refine ih _ _ ?_ ?_
          · rcases hp j hj2 with q | ⟨q, q1, q2⟩
            · exact Or.inl q
            · exact Or.inr ⟨q, by omega, by omega, q2⟩
          · rw [← hv, fdf, if_neg (nI_pos (by omega)), if_pos c16, nI_clamp (by omega)]
        · refine z_iload d_M_found_19 rfl ?_
          exact z_iret rfl d_M_found_21 (zlq rfl) (zlq rfl) (⟨by rw [← hv, fdf, if_neg (nI_pos (by omega)), if_neg c16], rfl⟩)
  refine z_iload_n d_M_found_0 rfl ?_
  refine z_istore_n d_M_found_1 (zlt rfl) ?_
  refine lp 9 c _ ?_ rfl
  rcases hc with q | ⟨j, j1, j2⟩
  · exact Or.inl q
  · exact Or.inr ⟨j, by omega, j1, j2⟩
abbrev rm_M_forgetRun : Room := { frames := 0, cells := 0, slots := 0, locals := 0 }
set_option maxHeartbeats 4000000 in
set_option maxRecDepth 100000 in
theorem c_M_forgetRun (l : Launch) (E : zE) {A : Nat → Nat} (hA : tmI A) (X : zSt) : zM l E y_M_forgetRun b_M_forgetRun 2 (none) rm_M_forgetRun [.ref (A 44)] (tp E A X) (zPv (tp E A (tFg X))) := by
  refine zM_w (by decide +kernel) rfl rfl (fun sz => ?_)
  refine z_aload_n d_M_forgetRun_0 rfl ?_
  refine z_iconst d_M_forgetRun_1 ic_0 ?_
  refine t_put fp_M_219 d_M_forgetRun_2 hA (by decide) rfl ?_
  refine z_aload_n d_M_forgetRun_5 rfl ?_
  refine z_iconst d_M_forgetRun_6 ic_0 ?_
  refine t_put fp_M_222 d_M_forgetRun_7 hA (by decide) rfl ?_
  refine z_aload_n d_M_forgetRun_10 rfl ?_
  refine z_iconst d_M_forgetRun_11 ic_0 ?_
  refine t_put fp_M_225 d_M_forgetRun_12 hA (by decide) rfl ?_
  refine z_iconst d_M_forgetRun_15 ic_0 ?_
  refine z_istore_n d_M_forgetRun_16 (zlt rfl) ?_
  refine zlp (Gh := fun (k : Nat) (Y : zSt) => zG (zcx l E b_M_forgetRun "PointsToRoundsModel" 2 (none) false rm_M_forgetRun (tp E A X) sz (zPv (tp E A (tFg X)))) 0 0 17 [some (.ref (A 44)), some (.int (nI (k)))] [] (tp E A Y)) (f := fun k Y => va_up Y 42 (upd (Y 42) k (nI 0))) (N := 60) ?_ ?_
  rotate_left
  · intro k hk ih
    generalize zit _ k _ = Y at ih ⊢
    show zG (zcx l E b_M_forgetRun "PointsToRoundsModel" 2 (none) false rm_M_forgetRun (tp E A X) sz (zPv (tp E A (tFg X)))) 0 0 17 [some (.ref (A 44)), some (.int (nI (k)))] [] (tp E A Y)
    refine z_iload_n d_M_forgetRun_17 rfl ?_
    refine z_bipush d_M_forgetRun_18 bp_60 ?_
    refine z_icmp_ge (tgt := 36) d_M_forgetRun_20 (by decide) (fun c20 => absurd c20 (nI_ge hk (by decide))) (fun c20 => ?_)
    have c20n := (not_congr (nI_leI (by omega) (by omega))).mp c20
    refine z_aload_n d_M_forgetRun_23 rfl ?_
    refine z_get fa_M_106 d_M_forgetRun_24 (tp_o hA) rfl ?_
    refine z_iload_n d_M_forgetRun_27 rfl ?_
    refine z_iconst d_M_forgetRun_28 ic_0 ?_
    refine t_ast (kf := 42) (j := k) d_M_forgetRun_29 hA rfl rfl (show k < 60 from by omega) (by decide) ?_
    refine z_iinc (v := nI (k + 1)) d_M_forgetRun_30 (zlt rfl) rfl (zinc _) ?_
    refine z_goto (tgt := 17) d_M_forgetRun_33 (by decide) ?_
    exact ih
  rw [zit_fill (g := fun _ => nI 0)]
  show zG (zcx l E b_M_forgetRun "PointsToRoundsModel" 2 (none) false rm_M_forgetRun (tp E A X) sz (zPv (tp E A (tFg X)))) 0 0 17 [some (.ref (A 44)), some (.int (nI 60))] [] (tp E A (va_up (va_up (va_up (va_up X 32 (fun _ => nI 0)) 37 (fun _ => nI 0)) 43 (fun _ => nI 0)) 42 (fun j => if j < 60 then nI 0 else X 42 j)))
  refine z_iload_n d_M_forgetRun_17 rfl ?_
  refine z_bipush d_M_forgetRun_18 bp_60 ?_
  refine z_icmp_ge (tgt := 36) d_M_forgetRun_20 (by decide) (fun c20 => ?_) (fun c20 => absurd (by decide +kernel) c20)
  exact z_vret rfl d_M_forgetRun_36 (zlq rfl) (zlq rfl) (⟨rfl, rfl⟩)
abbrev rm_M_change : Room := { frames := 1, cells := 0, slots := 0, locals := 21 }
set_option maxHeartbeats 4000000 in
set_option maxRecDepth 100000 in
theorem c_M_change (l : Launch) (E : zE) {A : Nat → Nat} (hA : tmI A) (X : zSt) : zM l E y_M_change b_M_change 1 (none) rm_M_change [.ref (A 44)] (tp E A X) (zPv (tp E A (tCh X))) := by
  refine zM_w (by decide +kernel) rfl rfl (fun sz => ?_)
  refine z_aload_n d_M_change_0 rfl ?_
  refine z_iconst d_M_change_1 ic_0 ?_
  refine t_putZ fp_M_127 nz_0 d_M_change_2 hA (by decide) rfl ?_
  refine z_aload_n d_M_change_5 rfl ?_
  refine z_cVv (c_M_forgetRun l E hA _) cb_M_forgetRun ci_M_forgetRun ln_M_131 (tp_o hA) rfl rfl (zlq rfl) rfl (zlq rfl) (zlq rfl) d_M_change_6 ?_
  exact z_vret rfl d_M_change_9 (zlq rfl) (zlq rfl) (⟨rfl, rfl⟩)
abbrev rm_M_cls : Room := { frames := 2, cells := 0, slots := 0, locals := 41 }
set_option maxHeartbeats 4000000 in
set_option maxRecDepth 100000 in
theorem c_M_cls (l : Launch) (E : zE) {A : Nat → Nat} (hA : tmI A) (X : zSt) (hX : tInv X) (p : Int32) : zM l E y_M_cls b_M_cls 2 ((some .int)) rm_M_cls [.ref (A 44), .int p] (tp E A X) (zPi (tCls X p).1 (tp E A (tCls X p).2)) := by
  refine zM_w (by decide +kernel) rfl rfl (fun sz => ?_)
  obtain ⟨⟨⟨h0, b0⟩, ⟨h2, b2⟩, ⟨h4, b4⟩, ⟨h7, b7⟩, ⟨h16, b16⟩⟩, h18, h19, hp, hf, hs, hst⟩ := id hX
  refine z_iload_n d_M_cls_0 rfl ?_
  refine z_iconst (v := -1) d_M_cls_1 ic_m1 ?_
  refine z_icmp_lt (tgt := 13) d_M_cls_2 (by decide) (fun c2 => ?_) (fun c2 => ?_)
  · refine z_iconst (v := -1) d_M_cls_13 ic_m1 ?_
    exact z_iret rfl d_M_cls_14 (zlq rfl) (zlq rfl) (by unfold tCls; rw [if_pos c2]; exact ⟨rfl, rfl⟩)
  · refine z_iload_n d_M_cls_5 rfl ?_
    refine z_aload_n d_M_cls_6 rfl ?_
    refine z_get fa_M_109 d_M_cls_7 (tp_o hA) rfl ?_
    refine z_top h0 ?_
    refine z_icmp_lt (tgt := 15) d_M_cls_10 (by decide) (fun c10 => ?_) (fun c10 => ?_)
    · refine z_aload_n d_M_cls_15 rfl ?_
      refine z_get fa_M_109 d_M_cls_16 (tp_o hA) rfl ?_
      refine z_top h0 ?_
      refine z_bipush d_M_cls_19 bp_8 ?_
      refine z_icmp_ne (tgt := 27) d_M_cls_21 (by decide) (fun c21 => ?_) (fun c21 => ?_)
      · have c21n := (not_congr (nI_eq (by omega) (by omega))).mp c21
        refine z_aload_n d_M_cls_27 rfl ?_
        refine z_get fa_M_7 d_M_cls_28 (tp_o hA) rfl ?_
        refine z_aload_n d_M_cls_31 rfl ?_
        refine z_get fa_M_109 d_M_cls_32 (tp_o hA) rfl ?_
        refine z_top h0 ?_
        refine z_iload_n d_M_cls_35 rfl ?_
        refine t_ast (kf := 1) (j := cn X 0) d_M_cls_36 hA rfl rfl (show cn X 0 < 8 from by omega) (by decide) ?_
        refine z_aload_n d_M_cls_37 rfl ?_
        refine z_dup d_M_cls_38 rfl ?_
        refine z_get fa_M_109 d_M_cls_39 (tp_o hA) rfl ?_
        refine z_top h0 ?_
        refine z_iconst d_M_cls_42 ic_1 ?_
        refine z_iadd d_M_cls_43 ?_
        refine z_top (nI_add (cn X 0) (1)) ?_
        refine t_put fp_M_109 d_M_cls_44 hA (by decide) rfl ?_
        refine z_aload_n d_M_cls_47 rfl ?_
        refine z_cVv (c_M_change l E hA _) cb_M_change ci_M_change ln_M_134 (tp_o hA) rfl rfl (zlq rfl) rfl (zlq rfl) (zlq rfl) d_M_cls_48 ?_
        refine z_aload_n d_M_cls_51 rfl ?_
        refine z_get (v := .int (nI (cn X 0 + 1))) fa_M_109 d_M_cls_52 (tp_o hA) rfl ?_
        refine z_iconst d_M_cls_55 ic_1 ?_
        refine z_isub d_M_cls_56 ?_
        refine z_top (pk_sub (a := cn X 0 + 1) (b := 1) (by omega)) ?_
        exact z_iret rfl d_M_cls_57 (zlq rfl) (zlq rfl) (by unfold tCls; rw [if_neg c2, if_pos c10, if_neg c21]; exact ⟨rfl, rfl⟩)
      · have c21n := (nI_eq (by omega) (by omega)).mp c21
        refine z_bipush (v := -4) d_M_cls_24 bp_m4 ?_
        exact z_iret rfl d_M_cls_26 (zlq rfl) (zlq rfl) (by unfold tCls; rw [if_neg c2, if_pos c10, if_pos c21]; exact ⟨rfl, rfl⟩)
    · refine z_iconst (v := -1) d_M_cls_13 ic_m1 ?_
      exact z_iret rfl d_M_cls_14 (zlq rfl) (zlq rfl) (by unfold tCls; rw [if_neg c2, if_neg c10]; exact ⟨rfl, rfl⟩)
abbrev rm_M_field : Room := { frames := 2, cells := 0, slots := 0, locals := 41 }
set_option maxHeartbeats 4000000 in
set_option maxRecDepth 100000 in
theorem c_M_field (l : Launch) (E : zE) {A : Nat → Nat} (hA : tmI A) (X : zSt) (hX : tInv X) (c : Int32) : zM l E y_M_field b_M_field 2 ((some .int)) rm_M_field [.ref (A 44), .int c] (tp E A X) (zPi (tFld X c).1 (tp E A (tFld X c).2)) := by
  refine zM_w (by decide +kernel) rfl rfl (fun sz => ?_)
  obtain ⟨⟨⟨h0, b0⟩, ⟨h2, b2⟩, ⟨h4, b4⟩, ⟨h7, b7⟩, ⟨h16, b16⟩⟩, h18, h19, hp, hf, hs, hst⟩ := id hX
  refine z_aload_n d_M_field_0 rfl ?_
  refine z_iload_n d_M_field_1 rfl ?_
  refine z_cVi (c_M_isClass l E hA _ _) cb_M_isClass ci_M_isClass ln_M_137 (tp_o hA) rfl rfl (zlq rfl) rfl (zlq rfl) (zlq rfl) d_M_field_2 ?_
  refine z_if_ne (tgt := 10) d_M_field_5 (by decide) (fun c5 => ?_) (fun c5 => ?_)
  · have c5n := bI_n.mp c5
    refine z_aload_n d_M_field_10 rfl ?_
    refine z_get fa_M_113 d_M_field_11 (tp_o hA) rfl ?_
    refine z_top h2 ?_
    refine z_bipush d_M_field_14 bp_8 ?_
    refine z_icmp_ne (tgt := 22) d_M_field_16 (by decide) (fun c16 => ?_) (fun c16 => ?_)
    · have c16n := (not_congr (nI_eq (by omega) (by omega))).mp c16
      refine z_aload_n d_M_field_22 rfl ?_
      refine z_get fa_M_13 d_M_field_23 (tp_o hA) rfl ?_
      refine z_aload_n d_M_field_26 rfl ?_
      refine z_get fa_M_113 d_M_field_27 (tp_o hA) rfl ?_
      refine z_top h2 ?_
      refine z_iload_n d_M_field_30 rfl ?_
      refine t_ast (kf := 3) (j := cn X 2) d_M_field_31 hA rfl rfl (show cn X 2 < 8 from by omega) (by decide) ?_
      refine z_aload_n d_M_field_32 rfl ?_
      refine z_dup d_M_field_33 rfl ?_
      refine z_get fa_M_113 d_M_field_34 (tp_o hA) rfl ?_
      refine z_top h2 ?_
      refine z_iconst d_M_field_37 ic_1 ?_
      refine z_iadd d_M_field_38 ?_
      refine z_top (nI_add (cn X 2) (1)) ?_
      refine t_put fp_M_113 d_M_field_39 hA (by decide) rfl ?_
      refine z_aload_n d_M_field_42 rfl ?_
      refine z_cVv (c_M_change l E hA _) cb_M_change ci_M_change ln_M_134 (tp_o hA) rfl rfl (zlq rfl) rfl (zlq rfl) (zlq rfl) d_M_field_43 ?_
      refine z_aload_n d_M_field_46 rfl ?_
      refine z_get (v := .int (nI (cn X 2 + 1))) fa_M_113 d_M_field_47 (tp_o hA) rfl ?_
      refine z_iconst d_M_field_50 ic_1 ?_
      refine z_isub d_M_field_51 ?_
      refine z_top (pk_sub (a := cn X 2 + 1) (b := 1) (by omega)) ?_
      exact z_iret rfl d_M_field_52 (zlq rfl) (zlq rfl) (by unfold tFld; rw [if_pos c5n, if_neg c16]; exact ⟨rfl, rfl⟩)
    · have c16n := (nI_eq (by omega) (by omega)).mp c16
      refine z_bipush (v := -4) d_M_field_19 bp_m4 ?_
      exact z_iret rfl d_M_field_21 (zlq rfl) (zlq rfl) (by unfold tFld; rw [if_pos c5n, if_pos c16]; exact ⟨rfl, rfl⟩)
  · have c5n := bI_e.mp c5
    refine z_iconst (v := -1) d_M_field_8 ic_m1 ?_
    exact z_iret rfl d_M_field_9 (zlq rfl) (zlq rfl) (by unfold tFld; rw [if_neg (zbf c5n)]; exact ⟨rfl, rfl⟩)
abbrev rm_M_method : Room := { frames := 2, cells := 0, slots := 0, locals := 41 }
set_option maxHeartbeats 4000000 in
set_option maxRecDepth 100000 in
theorem c_M_method (l : Launch) (E : zE) {A : Nat → Nat} (hA : tmI A) (X : zSt) (hX : tInv X) (c g : Int32) : zM l E y_M_method b_M_method 3 ((some .int)) rm_M_method [.ref (A 44), .int c, .int g] (tp E A X) (zPi (tMth X c g).1 (tp E A (tMth X c g).2)) := by
  refine zM_w (by decide +kernel) rfl rfl (fun sz => ?_)
  obtain ⟨⟨⟨h0, b0⟩, ⟨h2, b2⟩, ⟨h4, b4⟩, ⟨h7, b7⟩, ⟨h16, b16⟩⟩, h18, h19, hp, hf, hs, hst⟩ := id hX
  refine z_aload_n d_M_method_0 rfl ?_
  refine z_iload_n d_M_method_1 rfl ?_
  refine z_cVi (c_M_isClass l E hA _ _) cb_M_isClass ci_M_isClass ln_M_137 (tp_o hA) rfl rfl (zlq rfl) rfl (zlq rfl) (zlq rfl) d_M_method_2 ?_
  refine z_if_ne (tgt := 10) d_M_method_5 (by decide) (fun c5 => ?_) (fun c5 => ?_)
  · have c5n := bI_n.mp c5
    refine z_iload_n d_M_method_10 rfl ?_
    refine z_if_lt (tgt := 19) d_M_method_11 (by decide) (fun c11 => ?_) (fun c11 => ?_)
    · refine z_bipush (v := -2) d_M_method_19 bp_m2 ?_
      exact z_iret rfl d_M_method_21 (zlq rfl) (zlq rfl) (by unfold tMth; rw [if_pos c5n, if_pos c11]; exact ⟨rfl, rfl⟩)
    · refine z_iload_n d_M_method_14 rfl ?_
      refine z_iconst d_M_method_15 ic_3 ?_
      refine z_icmp_le (tgt := 22) d_M_method_16 (by decide) (fun c16 => ?_) (fun c16 => ?_)
      · refine z_aload_n d_M_method_22 rfl ?_
        refine z_iload_n d_M_method_23 rfl ?_
        refine z_iload_n d_M_method_24 rfl ?_
        refine z_cVi (c_M_methodWith l E hA _ hX (c) (g)) cb_M_methodWith ci_M_methodWith ln_M_123 (tp_o hA) rfl rfl (zlq rfl) rfl (zlq rfl) (zlq rfl) d_M_method_25 ?_
        refine z_if_lt (tgt := 34) d_M_method_28 (by decide) (fun c28 => ?_) (fun c28 => ?_)
        · refine z_aload_n d_M_method_34 rfl ?_
          refine z_get fa_M_116 d_M_method_35 (tp_o hA) rfl ?_
          refine z_top h4 ?_
          refine z_bipush d_M_method_38 bp_10 ?_
          refine z_icmp_ne (tgt := 46) d_M_method_40 (by decide) (fun c40 => ?_) (fun c40 => ?_)
          · have c40n := (not_congr (nI_eq (by omega) (by omega))).mp c40
            refine z_aload_n d_M_method_46 rfl ?_
            refine z_get fa_M_16 d_M_method_47 (tp_o hA) rfl ?_
            refine z_aload_n d_M_method_50 rfl ?_
            refine z_get fa_M_116 d_M_method_51 (tp_o hA) rfl ?_
            refine z_top h4 ?_
            refine z_iload_n d_M_method_54 rfl ?_
            refine t_ast (kf := 5) (j := cn X 4) d_M_method_55 hA rfl rfl (show cn X 4 < 10 from by omega) (by decide) ?_
            refine z_aload_n d_M_method_56 rfl ?_
            refine z_get fa_M_19 d_M_method_57 (tp_o hA) rfl ?_
            refine z_aload_n d_M_method_60 rfl ?_
            refine z_get fa_M_116 d_M_method_61 (tp_o hA) rfl ?_
            refine z_top h4 ?_
            refine z_iload_n d_M_method_64 rfl ?_
            refine t_ast (kf := 6) (j := cn X 4) d_M_method_65 hA rfl rfl (show cn X 4 < 10 from by omega) (by decide) ?_
            refine z_aload_n d_M_method_66 rfl ?_
            refine z_dup d_M_method_67 rfl ?_
            refine z_get fa_M_116 d_M_method_68 (tp_o hA) rfl ?_
            refine z_top h4 ?_
            refine z_iconst d_M_method_71 ic_1 ?_
            refine z_iadd d_M_method_72 ?_
            refine z_top (nI_add (cn X 4) (1)) ?_
            refine t_put fp_M_116 d_M_method_73 hA (by decide) rfl ?_
            refine z_aload_n d_M_method_76 rfl ?_
            refine z_cVv (c_M_change l E hA _) cb_M_change ci_M_change ln_M_134 (tp_o hA) rfl rfl (zlq rfl) rfl (zlq rfl) (zlq rfl) d_M_method_77 ?_
            refine z_aload_n d_M_method_80 rfl ?_
            refine z_get (v := .int (nI (cn X 4 + 1))) fa_M_116 d_M_method_81 (tp_o hA) rfl ?_
            refine z_iconst d_M_method_84 ic_1 ?_
            refine z_isub d_M_method_85 ?_
            refine z_top (pk_sub (a := cn X 4 + 1) (b := 1) (by omega)) ?_
            exact z_iret rfl d_M_method_86 (zlq rfl) (zlq rfl) (by unfold tMth; rw [if_pos c5n, if_neg c11, if_pos c16, if_pos c28, if_neg c40]; exact ⟨rfl, rfl⟩)
          · have c40n := (nI_eq (by omega) (by omega)).mp c40
            refine z_bipush (v := -4) d_M_method_43 bp_m4 ?_
            exact z_iret rfl d_M_method_45 (zlq rfl) (zlq rfl) (by unfold tMth; rw [if_pos c5n, if_neg c11, if_pos c16, if_pos c28, if_pos c40]; exact ⟨rfl, rfl⟩)
        · refine z_bipush (v := -3) d_M_method_31 bp_m3 ?_
          exact z_iret rfl d_M_method_33 (zlq rfl) (zlq rfl) (by unfold tMth; rw [if_pos c5n, if_neg c11, if_pos c16, if_neg c28]; exact ⟨rfl, rfl⟩)
      · refine z_bipush (v := -2) d_M_method_19 bp_m2 ?_
        exact z_iret rfl d_M_method_21 (zlq rfl) (zlq rfl) (by unfold tMth; rw [if_pos c5n, if_neg c11, if_neg c16]; exact ⟨rfl, rfl⟩)
  · have c5n := bI_e.mp c5
    refine z_iconst (v := -1) d_M_method_8 ic_m1 ?_
    exact z_iret rfl d_M_method_9 (zlq rfl) (zlq rfl) (by unfold tMth; rw [if_neg (zbf c5n)]; exact ⟨rfl, rfl⟩)
abbrev rm_M_mode : Room := { frames := 2, cells := 0, slots := 0, locals := 41 }
set_option maxHeartbeats 4000000 in
set_option maxRecDepth 100000 in
theorem c_M_mode (l : Launch) (E : zE) {A : Nat → Nat} (hA : tmI A) (X : zSt) (m : Int32) : zM l E y_M_mode b_M_mode 3 ((some .int)) rm_M_mode [.ref (A 44), .int m] (tp E A X) (zPi (tMode X m).1 (tp E A (tMode X m).2)) := by
  refine zM_w (by decide +kernel) rfl rfl (fun sz => ?_)
  refine z_iload_n d_M_mode_0 rfl ?_
  refine z_if_lt (tgt := 9) d_M_mode_1 (by decide) (fun c1 => ?_) (fun c1 => ?_)
  · refine z_bipush (v := -2) d_M_mode_9 bp_m2 ?_
    exact z_iret rfl d_M_mode_11 (zlq rfl) (zlq rfl) (by unfold tMode; rw [if_pos c1]; exact ⟨rfl, rfl⟩)
  · refine z_iload_n d_M_mode_4 rfl ?_
    refine z_iconst d_M_mode_5 ic_1 ?_
    refine z_icmp_le (tgt := 12) d_M_mode_6 (by decide) (fun c6 => ?_) (fun c6 => ?_)
    · refine z_aload_n d_M_mode_12 rfl ?_
      refine z_get fa_M_163 d_M_mode_13 (tp_o hA) rfl ?_
      refine z_istore_n d_M_mode_16 (zlt rfl) ?_
      refine z_aload_n d_M_mode_17 rfl ?_
      refine z_iload_n d_M_mode_18 rfl ?_
      refine t_put fp_M_163 d_M_mode_19 hA (by decide) rfl ?_
      refine z_aload_n d_M_mode_22 rfl ?_
      refine z_cVv (c_M_change l E hA _) cb_M_change ci_M_change ln_M_134 (tp_o hA) rfl rfl (zlq rfl) rfl (zlq rfl) (zlq rfl) d_M_mode_23 ?_
      refine z_iload_n d_M_mode_26 rfl ?_
      exact z_iret rfl d_M_mode_27 (zlq rfl) (zlq rfl) (by unfold tMode; rw [if_neg c1, if_pos c6]; exact ⟨rfl, rfl⟩)
    · refine z_bipush (v := -2) d_M_mode_9 bp_m2 ?_
      exact z_iret rfl d_M_mode_11 (zlq rfl) (zlq rfl) (by unfold tMode; rw [if_neg c1, if_neg c6]; exact ⟨rfl, rfl⟩)
abbrev rm_M_clear : Room := { frames := 2, cells := 0, slots := 0, locals := 41 }
set_option maxHeartbeats 4000000 in
set_option maxRecDepth 100000 in
theorem c_M_clear (l : Launch) (E : zE) {A : Nat → Nat} (hA : tmI A) (X : zSt) : zM l E y_M_clear b_M_clear 2 ((some .int)) rm_M_clear [.ref (A 44)] (tp E A X) (zPi (tClr X).1 (tp E A (tClr X).2)) := by
  refine zM_w (by decide +kernel) rfl rfl (fun sz => ?_)
  refine z_aload_n d_M_clear_0 rfl ?_
  refine z_get fa_M_157 d_M_clear_1 (tp_o hA) rfl ?_
  refine z_istore_n d_M_clear_4 (zlt rfl) ?_
  refine z_aload_n d_M_clear_5 rfl ?_
  refine z_iconst d_M_clear_6 ic_0 ?_
  refine t_put fp_M_109 d_M_clear_7 hA (by decide) rfl ?_
  refine z_aload_n d_M_clear_10 rfl ?_
  refine z_iconst d_M_clear_11 ic_0 ?_
  refine t_put fp_M_113 d_M_clear_12 hA (by decide) rfl ?_
  refine z_aload_n d_M_clear_15 rfl ?_
  refine z_iconst d_M_clear_16 ic_0 ?_
  refine t_put fp_M_116 d_M_clear_17 hA (by decide) rfl ?_
  refine z_aload_n d_M_clear_20 rfl ?_
  refine z_iconst d_M_clear_21 ic_0 ?_
  refine t_put fp_M_157 d_M_clear_22 hA (by decide) rfl ?_
  refine z_aload_n d_M_clear_25 rfl ?_
  refine z_iconst d_M_clear_26 ic_0 ?_
  refine t_put fp_M_160 d_M_clear_27 hA (by decide) rfl ?_
  refine z_aload_n d_M_clear_30 rfl ?_
  refine z_cVv (c_M_change l E hA _) cb_M_change ci_M_change ln_M_134 (tp_o hA) rfl rfl (zlq rfl) rfl (zlq rfl) (zlq rfl) d_M_clear_31 ?_
  refine z_iload_n d_M_clear_34 rfl ?_
  exact z_iret rfl d_M_clear_35 (zlq rfl) (zlq rfl) (by unfold tClr; exact ⟨rfl, rfl⟩)
