/-! the twin: rounds -/
def tRe (nm k : Nat) : Int32 := if nI k = 0 then (if nI nm ≤ 0 then nI 0 else nI 1) else nI 0
def fl (X : zSt) (a N : Nat) (g : Nat → Int32) : zSt := va_up X a (fun j => if j < N then g j else X a j)
def tEm (X : zSt) : zSt := fl (fl (fl (fl (fl (fl X 20 1260 (fun _ => nI 0)) 22 160 (fun _ => nI 0)) 24 20 (fun _ => nI 0)) 26 4 (fun _ => nI 0)) 28 10 (tRe (cn X 4))) 30 1200 (fun _ => -1)
def cpy (X : zSt) (a b N : Nat) : zSt := fl X a N (X b)
def tCp (X : zSt) : zSt := cpy (cpy (cpy (cpy (cpy X 21 20 1260) 23 22 160) 25 24 20) 27 26 4) 29 28 10
def tSw (X : zSt) : zSt := cpy (cpy (cpy (cpy (cpy X 20 21 1260) 22 23 160) 24 25 20) 26 27 4) 28 29 10
theorem zit_fl {a : Nat} {g : Nat → Int32} {X : zSt} (N : Nat) : zit (fun k (Y : zSt) => va_up Y a (upd (Y a) k (g k))) N X = fl X a N g := zit_fill N
theorem zit_cp {a b : Nat} {X : zSt} (hab : b ≠ a) (N : Nat) : zit (fun k (Y : zSt) => va_up Y a (upd (Y a) k (Y b k))) N X = cpy X a b N := zit_copy hab N
def tEq (X : zSt) (a b N : Nat) (s : Bool) : Bool := zit (fun k s => s && decide (X a k = X b k)) N s
def tSame (X : zSt) : Bool := tEq X 29 28 10 (tEq X 27 26 4 (tEq X 25 24 20 (tEq X 23 22 160 (tEq X 21 20 1260 true))))
def tb (q : Int32) (o : Nat) : Bool := decide ((q >>> (nI o &&& 31)) &&& nI 1 = nI 1)
def sh1 (o : Nat) : Int32 := nI 1 <<< (nI o &&& 31)
def orA (Y : zSt) (k j : Nat) (v : Int32) : zSt := va_up Y k (upd (Y k) j (Y k j ||| v))
abbrev THN : List Nat := [21, 23, 25, 27, 29]
theorem orA_tsm {S : List Nat} {Y : zSt} {k j : Nat} {v : Int32} (hk : k ∈ S) : tsm S Y (orA Y k j v) := tsm_up hk
def tEach (X : zSt) (i : Nat) (p q : Int32) (to : Nat) (o : Nat) (Y : zSt) : zSt := match ne X 9 i with
  | 2 => orA Y 21 to (if tb q o = true then (if und X 9 (X 17 o) (X 3 (ne X 12 i)) = true then X 22 (8 * o + ne X 12 i) else nI 0) else nI 0)
  | 3 => orA Y 23 (8 * o + ne X 12 i) (if tb p o = true then (if und X 9 (X 17 o) (X 3 (ne X 12 i)) = true then q else nI 0) else nI 0)
  | 4 => orA Y 21 to (if tb q o = true then (if und X 9 (X 17 o) (X 12 i) = true then sh1 o else nI 0) else nI 0)
  | 8 => orA Y 21 to (if tb q o = true then X 24 o else nI 0)
  | _ => orA Y 25 o (if tb p o = true then q else nI 0)
theorem tEach_2 {X : zSt} {i : Nat} {p q : Int32} {to o : Nat} {Y : zSt} (h : ne X 9 i = 2) : tEach X i p q to o Y = orA Y 21 to (if tb q o = true then (if und X 9 (X 17 o) (X 3 (ne X 12 i)) = true then X 22 (8 * o + ne X 12 i) else nI 0) else nI 0) := by unfold tEach; rw [h]; rfl
theorem tEach_3 {X : zSt} {i : Nat} {p q : Int32} {to o : Nat} {Y : zSt} (h : ne X 9 i = 3) : tEach X i p q to o Y = orA Y 23 (8 * o + ne X 12 i) (if tb p o = true then (if und X 9 (X 17 o) (X 3 (ne X 12 i)) = true then q else nI 0) else nI 0) := by unfold tEach; rw [h]; rfl
theorem tEach_4 {X : zSt} {i : Nat} {p q : Int32} {to o : Nat} {Y : zSt} (h : ne X 9 i = 4) : tEach X i p q to o Y = orA Y 21 to (if tb q o = true then (if und X 9 (X 17 o) (X 12 i) = true then sh1 o else nI 0) else nI 0) := by unfold tEach; rw [h]; rfl
theorem tEach_8 {X : zSt} {i : Nat} {p q : Int32} {to o : Nat} {Y : zSt} (h : ne X 9 i = 8) : tEach X i p q to o Y = orA Y 21 to (if tb q o = true then X 24 o else nI 0) := by unfold tEach; rw [h]; rfl
theorem tEach_9 {X : zSt} {i : Nat} {p q : Int32} {to o : Nat} {Y : zSt} (h : ne X 9 i = 9) : tEach X i p q to o Y = orA Y 25 o (if tb p o = true then q else nI 0) := by unfold tEach; rw [h]; rfl
theorem tEach_tsm {X : zSt} {i : Nat} {p q : Int32} {to o : Nat} {Y : zSt} : tsm THN Y (tEach X i p q to o Y) := by
  unfold tEach
  split <;> exact orA_tsm (by decide)
def tCx (X : zSt) (o : Nat) : Nat := if X 18 0 = 0 then 0 else 1 + o
def tCa2 (X : zSt) (g1 g2 : Int32) (to o m c : Nat) (Y : zSt) : zSt := orA (orA (orA (orA (orA Y 29 m (sh1 c)) 21 (126 * m + 6 * c + 0) (sh1 o)) 21 (126 * m + 6 * c + 1) g1) 21 (126 * m + 6 * c + 2) g2) 21 to (X 20 (126 * m + 6 * c + 5))
def tCa1 (X : zSt) (i c : Nat) (q : Int32) (to o : Nat) (Y : zSt) : zSt :=
  if tb q o = true then (if 0 ≤ fdf X (X 12 i) 9 (X 17 o) then tCa2 X (X 20 (126 * ne X 8 i + 6 * c + ne X 13 i)) (X 20 (126 * ne X 8 i + 6 * c + ne X 14 i)) to o (fdf X (X 12 i) 9 (X 17 o)).toNatClampNeg (tCx X o) Y else Y) else Y
theorem tCa1_tsm {X : zSt} {i c : Nat} {q : Int32} {to o : Nat} {Y : zSt} : tsm THN Y (tCa1 X i c q to o Y) := by
  unfold tCa1 tCa2
  split
  · split
    · exact tsm_tr (tsm_tr (tsm_tr (tsm_tr (orA_tsm (by decide)) (orA_tsm (by decide))) (orA_tsm (by decide))) (orA_tsm (by decide))) (orA_tsm (by decide))
    · exact tsm_rf
  · exact tsm_rf
def tTo (X : zSt) (i c : Nat) : Nat := 126 * ne X 8 i + 6 * c + ne X 10 i
def tQv (X : zSt) (i c : Nat) : Int32 := X 20 (126 * ne X 8 i + 6 * c + ne X 11 i)
def tBr (X : zSt) (i c : Nat) (Y : zSt) : zSt := match ne X 9 i with
  | 0 => orA Y 21 (tTo X i c) (sh1 (ne X 15 i))
  | 1 => orA Y 21 (tTo X i c) (tQv X i c)
  | 5 => orA Y 21 (tTo X i c) (X 26 (ne X 11 i))
  | 6 => orA Y 27 (ne X 10 i) (tQv X i c)
  | 7 => zit (tCa1 X i c (tQv X i c) (tTo X i c)) (cn X 16) Y
  | _ => zit (tEach X i (X 20 (tTo X i c)) (tQv X i c) (tTo X i c)) (cn X 16) Y
theorem zit_tsm {S : List Nat} {f : Nat → zSt → zSt} (hf : ∀ k Y, tsm S Y (f k Y)) (N : Nat) (Y : zSt) : tsm S Y (zit f N Y) :=
  zit_inv (f := f) (I := fun _ Z => tsm S Y Z) (N := N) tsm_rf (fun k Z _ h => tsm_tr h (hf k Z)) N (Nat.le_refl N)
theorem tBr_tsm {X : zSt} {i c : Nat} {Y : zSt} : tsm THN Y (tBr X i c Y) := by
  unfold tBr
  split
  · exact orA_tsm (by decide)
  · exact orA_tsm (by decide)
  · exact orA_tsm (by decide)
  · exact orA_tsm (by decide)
  · exact zit_tsm (fun k Y => tCa1_tsm) _ _
  · exact zit_tsm (fun k Y => tEach_tsm) _ _
theorem fdf_nat {X : zSt} {g : Int32} : ∀ (f : Nat) (c : Int32), 0 ≤ fdf X g f c → cn X 4 < 2 ^ 31 → ∃ m : Nat, m < cn X 4 ∧ fdf X g f c = nI m := by
  have hm : ∀ (c : Int32) (k j : Nat), j + k = cn X 4 → cn X 4 < 2 ^ 31 → ¬ mwf X c g k j < 0 → ∃ m : Nat, m < cn X 4 ∧ mwf X c g k j = nI m := by
    intro c k
    induction k with
    | zero => intro j _ _ h; exact absurd zneg h
    | succ k ih =>
      intro j hj hb h
      rw [mwf] at h ⊢
      by_cases h1 : X 5 j = c
      · rw [if_pos h1] at h ⊢
        by_cases h2 : X 6 j = g
        · rw [if_pos h2] at h ⊢
          exact ⟨j, by omega, rfl⟩
        · rw [if_neg h2] at h ⊢
          exact ih (j + 1) (by omega) hb h
      · rw [if_neg h1] at h ⊢
        exact ih (j + 1) (by omega) hb h
  intro f
  induction f with
  | zero => intro c h _; exact absurd h zneg2
  | succ f ih =>
    intro c h hb
    rw [fdf] at h ⊢
    by_cases h1 : c < 0
    · rw [if_pos h1] at h; exact absurd h zneg2
    · rw [if_neg h1] at h ⊢
      by_cases h2 : tMw X c g < 0
      · rw [if_pos h2] at h ⊢; exact ih _ h hb
      · rw [if_neg h2]
        exact hm c _ 0 (by omega) hb h2
theorem tInv_tsm {S : List Nat} {X Y : zSt} (h : tsm S X Y) (hS : ∀ j, j ≤ 19 → j ∉ S) (hX : tInv X) : tInv Y := by
  have e : ∀ j, j ≤ 19 → Y j = X j := fun j hj => h j (hS j hj)
  unfold tInv tSok cn ne at *
  rw [e 0 (by omega), e 1 (by omega), e 2 (by omega), e 3 (by omega), e 4 (by omega), e 7 (by omega), e 8 (by omega), e 9 (by omega), e 10 (by omega), e 11 (by omega), e 12 (by omega), e 13 (by omega), e 14 (by omega), e 15 (by omega), e 16 (by omega), e 17 (by omega), e 18 (by omega), e 19 (by omega)]
  exact hX
theorem THN_19 : ∀ j, j ≤ 19 → j ∉ THN := by
  intro j hj hm
  simp at hm
  omega
abbrev rm_M_empty : Room := { frames := 0, cells := 0, slots := 0, locals := 0 }
set_option maxHeartbeats 4000000 in
set_option maxRecDepth 100000 in
theorem c_M_empty (l : Launch) (E : zE) {A : Nat → Nat} (hA : tmI A) (X : zSt) (hX : tInv X) : zM l E y_M_empty b_M_empty 2 (none) rm_M_empty [.ref (A 44)] (tp E A X) (zPv (tp E A (tEm X))) := by
  refine zM_w (by decide +kernel) rfl rfl (fun sz => ?_)
  obtain ⟨⟨⟨h0, b0⟩, ⟨h2, b2⟩, ⟨h4, b4⟩, ⟨h7, b7⟩, ⟨h16, b16⟩⟩, h18, h19, hp, hf, hs, hst⟩ := id hX
  refine z_iconst d_M_empty_0 ic_0 ?_
  refine z_istore_n d_M_empty_1 (zlt rfl) ?_
  refine zlp (Gh := fun (kz : Nat) (Z : zSt) => zG (zcx l E b_M_empty "PointsToRoundsModel" 2 (none) false rm_M_empty (tp E A X) sz (zPv (tp E A (tEm X)))) 0 0 2 [some (.ref (A 44)), some (.int (nI (kz)))] [] (tp E A Z)) (f := fun k Y => va_up Y 20 (upd (Y 20) k (nI 0))) (N := 1260) (x0 := X) ?_ ?_
  rotate_left
  · intro a ha iha
    generalize zit _ a _ = Ya at iha ⊢
    show zG (zcx l E b_M_empty "PointsToRoundsModel" 2 (none) false rm_M_empty (tp E A X) sz (zPv (tp E A (tEm X)))) 0 0 2 [some (.ref (A 44)), some (.int (nI (a)))] [] (tp E A Ya)
    try dsimp only at iha
    refine z_iload_n d_M_empty_2 rfl ?_
    refine z_sipush d_M_empty_3 sp_1260 ?_
    refine z_icmp_ge (tgt := 22) d_M_empty_6 (by decide) (fun c6 => absurd c6 (nI_ge ha (by omega))) (fun c6 => ?_)
    have c6n := (not_congr (nI_leI (by omega) (by omega))).mp c6
    refine z_aload_n d_M_empty_9 rfl ?_
    refine z_get fa_M_49 d_M_empty_10 (tp_o hA) rfl ?_
    refine z_iload_n d_M_empty_13 rfl ?_
    refine z_iconst d_M_empty_14 ic_0 ?_
    refine t_ast (kf := 20) (j := a) d_M_empty_15 hA rfl rfl (show a < 1260 from by omega) (by decide) ?_
    refine z_iinc (v := nI (a + 1)) d_M_empty_16 (zlt rfl) rfl (zinc _) ?_
    refine z_goto (tgt := 2) d_M_empty_19 (by decide) ?_
    exact iha
  rw [zit_fl (g := fun k => nI 0)]
  show zG (zcx l E b_M_empty "PointsToRoundsModel" 2 (none) false rm_M_empty (tp E A X) sz (zPv (tp E A (tEm X)))) 0 0 2 [some (.ref (A 44)), some (.int (nI 1260))] [] (tp E A (fl X 20 1260 (fun k => nI 0)))
  refine z_iload_n d_M_empty_2 rfl ?_
  refine z_sipush d_M_empty_3 sp_1260 ?_
  refine z_icmp_ge (tgt := 22) d_M_empty_6 (by decide) (fun c6 => ?_) (fun c6 => absurd (by decide +kernel) c6)
  refine z_iconst d_M_empty_22 ic_0 ?_
  refine z_istore_n d_M_empty_23 (zlt rfl) ?_
  refine zlp (Gh := fun (kz : Nat) (Z : zSt) => zG (zcx l E b_M_empty "PointsToRoundsModel" 2 (none) false rm_M_empty (tp E A X) sz (zPv (tp E A (tEm X)))) 0 0 24 [some (.ref (A 44)), some (.int (nI (kz)))] [] (tp E A Z)) (f := fun k Y => va_up Y 22 (upd (Y 22) k (nI 0))) (N := 160) (x0 := (fl X 20 1260 (fun k => nI 0))) ?_ ?_
  rotate_left
  · intro b hb ihb
    generalize zit _ b _ = Yb at ihb ⊢
    show zG (zcx l E b_M_empty "PointsToRoundsModel" 2 (none) false rm_M_empty (tp E A X) sz (zPv (tp E A (tEm X)))) 0 0 24 [some (.ref (A 44)), some (.int (nI (b)))] [] (tp E A Yb)
    try dsimp only at ihb
    refine z_iload_n d_M_empty_24 rfl ?_
    refine z_sipush d_M_empty_25 sp_160 ?_
    refine z_icmp_ge (tgt := 44) d_M_empty_28 (by decide) (fun c28 => absurd c28 (nI_ge hb (by omega))) (fun c28 => ?_)
    have c28n := (not_congr (nI_leI (by omega) (by omega))).mp c28
    refine z_aload_n d_M_empty_31 rfl ?_
    refine z_get fa_M_55 d_M_empty_32 (tp_o hA) rfl ?_
    refine z_iload_n d_M_empty_35 rfl ?_
    refine z_iconst d_M_empty_36 ic_0 ?_
    refine t_ast (kf := 22) (j := b) d_M_empty_37 hA rfl rfl (show b < 160 from by omega) (by decide) ?_
    refine z_iinc (v := nI (b + 1)) d_M_empty_38 (zlt rfl) rfl (zinc _) ?_
    refine z_goto (tgt := 24) d_M_empty_41 (by decide) ?_
    exact ihb
  rw [zit_fl (g := fun k => nI 0)]
  show zG (zcx l E b_M_empty "PointsToRoundsModel" 2 (none) false rm_M_empty (tp E A X) sz (zPv (tp E A (tEm X)))) 0 0 24 [some (.ref (A 44)), some (.int (nI 160))] [] (tp E A (fl (fl X 20 1260 (fun k => nI 0)) 22 160 (fun k => nI 0)))
  refine z_iload_n d_M_empty_24 rfl ?_
  refine z_sipush d_M_empty_25 sp_160 ?_
  refine z_icmp_ge (tgt := 44) d_M_empty_28 (by decide) (fun c28 => ?_) (fun c28 => absurd (by decide +kernel) c28)
  refine z_iconst d_M_empty_44 ic_0 ?_
  refine z_istore_n d_M_empty_45 (zlt rfl) ?_
  refine zlp (Gh := fun (kz : Nat) (Z : zSt) => zG (zcx l E b_M_empty "PointsToRoundsModel" 2 (none) false rm_M_empty (tp E A X) sz (zPv (tp E A (tEm X)))) 0 0 46 [some (.ref (A 44)), some (.int (nI (kz)))] [] (tp E A Z)) (f := fun k Y => va_up Y 24 (upd (Y 24) k (nI 0))) (N := 20) (x0 := (fl (fl X 20 1260 (fun k => nI 0)) 22 160 (fun k => nI 0))) ?_ ?_
  rotate_left
  · intro c hc ihc
    generalize zit _ c _ = Yc at ihc ⊢
    show zG (zcx l E b_M_empty "PointsToRoundsModel" 2 (none) false rm_M_empty (tp E A X) sz (zPv (tp E A (tEm X)))) 0 0 46 [some (.ref (A 44)), some (.int (nI (c)))] [] (tp E A Yc)
    try dsimp only at ihc
    refine z_iload_n d_M_empty_46 rfl ?_
    refine z_bipush d_M_empty_47 bp_20 ?_
    refine z_icmp_ge (tgt := 65) d_M_empty_49 (by decide) (fun c49 => absurd c49 (nI_ge hc (by omega))) (fun c49 => ?_)
    have c49n := (not_congr (nI_leI (by omega) (by omega))).mp c49
    refine z_aload_n d_M_empty_52 rfl ?_
    refine z_get fa_M_61 d_M_empty_53 (tp_o hA) rfl ?_
    refine z_iload_n d_M_empty_56 rfl ?_
    refine z_iconst d_M_empty_57 ic_0 ?_
    refine t_ast (kf := 24) (j := c) d_M_empty_58 hA rfl rfl (show c < 20 from by omega) (by decide) ?_
    refine z_iinc (v := nI (c + 1)) d_M_empty_59 (zlt rfl) rfl (zinc _) ?_
    refine z_goto (tgt := 46) d_M_empty_62 (by decide) ?_
    exact ihc
  rw [zit_fl (g := fun k => nI 0)]
  show zG (zcx l E b_M_empty "PointsToRoundsModel" 2 (none) false rm_M_empty (tp E A X) sz (zPv (tp E A (tEm X)))) 0 0 46 [some (.ref (A 44)), some (.int (nI 20))] [] (tp E A (fl (fl (fl X 20 1260 (fun k => nI 0)) 22 160 (fun k => nI 0)) 24 20 (fun k => nI 0)))
  refine z_iload_n d_M_empty_46 rfl ?_
  refine z_bipush d_M_empty_47 bp_20 ?_
  refine z_icmp_ge (tgt := 65) d_M_empty_49 (by decide) (fun c49 => ?_) (fun c49 => absurd (by decide +kernel) c49)
  refine z_iconst d_M_empty_65 ic_0 ?_
  refine z_istore_n d_M_empty_66 (zlt rfl) ?_
  refine zlp (Gh := fun (kz : Nat) (Z : zSt) => zG (zcx l E b_M_empty "PointsToRoundsModel" 2 (none) false rm_M_empty (tp E A X) sz (zPv (tp E A (tEm X)))) 0 0 67 [some (.ref (A 44)), some (.int (nI (kz)))] [] (tp E A Z)) (f := fun k Y => va_up Y 26 (upd (Y 26) k (nI 0))) (N := 4) (x0 := (fl (fl (fl X 20 1260 (fun k => nI 0)) 22 160 (fun k => nI 0)) 24 20 (fun k => nI 0))) ?_ ?_
  rotate_left
  · intro d hd ihd
    generalize zit _ d _ = Yd at ihd ⊢
    show zG (zcx l E b_M_empty "PointsToRoundsModel" 2 (none) false rm_M_empty (tp E A X) sz (zPv (tp E A (tEm X)))) 0 0 67 [some (.ref (A 44)), some (.int (nI (d)))] [] (tp E A Yd)
    try dsimp only at ihd
    refine z_iload_n d_M_empty_67 rfl ?_
    refine z_iconst d_M_empty_68 ic_4 ?_
    refine z_icmp_ge (tgt := 85) d_M_empty_69 (by decide) (fun c69 => absurd c69 (nI_ge hd (by omega))) (fun c69 => ?_)
    have c69n := (not_congr (nI_leI (by omega) (by omega))).mp c69
    refine z_aload_n d_M_empty_72 rfl ?_
    refine z_get fa_M_67 d_M_empty_73 (tp_o hA) rfl ?_
    refine z_iload_n d_M_empty_76 rfl ?_
    refine z_iconst d_M_empty_77 ic_0 ?_
    refine t_ast (kf := 26) (j := d) d_M_empty_78 hA rfl rfl (show d < 4 from by omega) (by decide) ?_
    refine z_iinc (v := nI (d + 1)) d_M_empty_79 (zlt rfl) rfl (zinc _) ?_
    refine z_goto (tgt := 67) d_M_empty_82 (by decide) ?_
    exact ihd
  rw [zit_fl (g := fun k => nI 0)]
  show zG (zcx l E b_M_empty "PointsToRoundsModel" 2 (none) false rm_M_empty (tp E A X) sz (zPv (tp E A (tEm X)))) 0 0 67 [some (.ref (A 44)), some (.int (nI 4))] [] (tp E A (fl (fl (fl (fl X 20 1260 (fun k => nI 0)) 22 160 (fun k => nI 0)) 24 20 (fun k => nI 0)) 26 4 (fun k => nI 0)))
  refine z_iload_n d_M_empty_67 rfl ?_
  refine z_iconst d_M_empty_68 ic_4 ?_
  refine z_icmp_ge (tgt := 85) d_M_empty_69 (by decide) (fun c69 => ?_) (fun c69 => absurd (by decide +kernel) c69)
  refine z_iconst d_M_empty_85 ic_0 ?_
  refine z_istore_n d_M_empty_86 (zlt rfl) ?_
  have hTe := zit_inv (f := fun k Y => va_up Y 28 (upd (Y 28) k (tRe (cn X 4) k))) (I := fun _ Y => tsm [28] (fl (fl (fl (fl X 20 1260 (fun k => nI 0)) 22 160 (fun k => nI 0)) 24 20 (fun k => nI 0)) 26 4 (fun k => nI 0)) Y) (N := 10) (x0 := (fl (fl (fl (fl X 20 1260 (fun k => nI 0)) 22 160 (fun k => nI 0)) 24 20 (fun k => nI 0)) 26 4 (fun k => nI 0))) (tsm_rf) (fun k Y _ h => tsm_tr h (tsm_up (by decide)))
  refine zlp (Gh := fun (kz : Nat) (Z : zSt) => zG (zcx l E b_M_empty "PointsToRoundsModel" 2 (none) false rm_M_empty (tp E A X) sz (zPv (tp E A (tEm X)))) 0 0 87 [some (.ref (A 44)), some (.int (nI (kz)))] [] (tp E A Z)) (f := fun k Y => va_up Y 28 (upd (Y 28) k (tRe (cn X 4) k))) (N := 10) (x0 := (fl (fl (fl (fl X 20 1260 (fun k => nI 0)) 22 160 (fun k => nI 0)) 24 20 (fun k => nI 0)) 26 4 (fun k => nI 0))) ?_ ?_
  rotate_left
  · intro e he ihe
    have hYe := hTe e (by omega)
    generalize zit _ e _ = Ye at ihe hYe ⊢
    show zG (zcx l E b_M_empty "PointsToRoundsModel" 2 (none) false rm_M_empty (tp E A X) sz (zPv (tp E A (tEm X)))) 0 0 87 [some (.ref (A 44)), some (.int (nI (e)))] [] (tp E A Ye)
    try dsimp only at ihe
    refine z_iload_n d_M_empty_87 rfl ?_
    refine z_bipush d_M_empty_88 bp_10 ?_
    refine z_icmp_ge (tgt := 121) d_M_empty_90 (by decide) (fun c90 => absurd c90 (nI_ge he (by omega))) (fun c90 => ?_)
    have c90n := (not_congr (nI_leI (by omega) (by omega))).mp c90
    refine z_aload_n d_M_empty_93 rfl ?_
    refine z_get fa_M_73 d_M_empty_94 (tp_o hA) rfl ?_
    refine z_iload_n d_M_empty_97 rfl ?_
    refine z_iload_n d_M_empty_98 rfl ?_
    refine z_if_ne (tgt := 113) d_M_empty_99 (by decide) (fun c99 => ?_) (fun c99 => ?_)
    · have c99n := (not_congr (nI_z (by omega))).mp c99
      refine z_iconst d_M_empty_113 ic_0 ?_
      refine t_ast (kf := 28) (j := e) d_M_empty_114 hA rfl rfl (show e < 10 from by omega) (by decide) ?_
      refine z_iinc (v := nI (e + 1)) d_M_empty_115 (zlt rfl) rfl (zinc _) ?_
      refine z_goto (tgt := 87) d_M_empty_118 (by decide) ?_
      rw [show tRe (cn X 4) e = nI 0 from by unfold tRe; rw [if_neg c99]] at ihe
      exact ihe
    · have c99n := (nI_z (by omega)).mp c99
      refine z_aload_n d_M_empty_102 rfl ?_
      refine z_get fa_M_116 d_M_empty_103 (tp_o hA) rfl ?_
      refine z_top ((congrFun (hYe 4 (by decide)) 0).trans h4) ?_
      refine z_if_le (tgt := 113) d_M_empty_106 (by decide) (fun c106 => ?_) (fun c106 => ?_)
      · refine z_iconst d_M_empty_113 ic_0 ?_
        refine t_ast (kf := 28) (j := e) d_M_empty_114 hA rfl rfl (show e < 10 from by omega) (by decide) ?_
        refine z_iinc (v := nI (e + 1)) d_M_empty_115 (zlt rfl) rfl (zinc _) ?_
        refine z_goto (tgt := 87) d_M_empty_118 (by decide) ?_
        rw [show tRe (cn X 4) e = nI 0 from by unfold tRe; rw [if_pos c99, if_pos c106]] at ihe
        exact ihe
      · refine z_iconst d_M_empty_109 ic_1 ?_
        refine z_goto (tgt := 114) d_M_empty_110 (by decide) ?_
        refine t_ast (kf := 28) (j := e) d_M_empty_114 hA rfl rfl (show e < 10 from by omega) (by decide) ?_
        refine z_iinc (v := nI (e + 1)) d_M_empty_115 (zlt rfl) rfl (zinc _) ?_
        refine z_goto (tgt := 87) d_M_empty_118 (by decide) ?_
        rw [show tRe (cn X 4) e = nI 1 from by unfold tRe; rw [if_pos c99, if_neg c106]] at ihe
        exact ihe
  rw [zit_fl (g := fun k => tRe (cn X 4) k)]
  show zG (zcx l E b_M_empty "PointsToRoundsModel" 2 (none) false rm_M_empty (tp E A X) sz (zPv (tp E A (tEm X)))) 0 0 87 [some (.ref (A 44)), some (.int (nI 10))] [] (tp E A (fl (fl (fl (fl (fl X 20 1260 (fun k => nI 0)) 22 160 (fun k => nI 0)) 24 20 (fun k => nI 0)) 26 4 (fun k => nI 0)) 28 10 (fun k => tRe (cn X 4) k)))
  have hEe := hTe _ (Nat.le_refl _)
  refine z_iload_n d_M_empty_87 rfl ?_
  refine z_bipush d_M_empty_88 bp_10 ?_
  refine z_icmp_ge (tgt := 121) d_M_empty_90 (by decide) (fun c90 => ?_) (fun c90 => absurd (by decide +kernel) c90)
  refine z_iconst d_M_empty_121 ic_0 ?_
  refine z_istore_n d_M_empty_122 (zlt rfl) ?_
  refine zlp (Gh := fun (kz : Nat) (Z : zSt) => zG (zcx l E b_M_empty "PointsToRoundsModel" 2 (none) false rm_M_empty (tp E A X) sz (zPv (tp E A (tEm X)))) 0 0 123 [some (.ref (A 44)), some (.int (nI (kz)))] [] (tp E A Z)) (f := fun k Y => va_up Y 30 (upd (Y 30) k (-1))) (N := 1200) (x0 := (fl (fl (fl (fl (fl X 20 1260 (fun k => nI 0)) 22 160 (fun k => nI 0)) 24 20 (fun k => nI 0)) 26 4 (fun k => nI 0)) 28 10 (fun k => tRe (cn X 4) k))) ?_ ?_
  rotate_left
  · intro f hf ihf
    generalize zit _ f _ = Yf at ihf ⊢
    show zG (zcx l E b_M_empty "PointsToRoundsModel" 2 (none) false rm_M_empty (tp E A X) sz (zPv (tp E A (tEm X)))) 0 0 123 [some (.ref (A 44)), some (.int (nI (f)))] [] (tp E A Yf)
    try dsimp only at ihf
    refine z_iload_n d_M_empty_123 rfl ?_
    refine z_sipush d_M_empty_124 sp_1200 ?_
    refine z_icmp_ge (tgt := 143) d_M_empty_127 (by decide) (fun c127 => absurd c127 (nI_ge hf (by omega))) (fun c127 => ?_)
    have c127n := (not_congr (nI_leI (by omega) (by omega))).mp c127
    refine z_aload_n d_M_empty_130 rfl ?_
    refine z_get fa_M_79 d_M_empty_131 (tp_o hA) rfl ?_
    refine z_iload_n d_M_empty_134 rfl ?_
    refine z_iconst (v := -1) d_M_empty_135 ic_m1 ?_
    refine t_ast (kf := 30) (j := f) d_M_empty_136 hA rfl rfl (show f < 1200 from by omega) (by decide) ?_
    refine z_iinc (v := nI (f + 1)) d_M_empty_137 (zlt rfl) rfl (zinc _) ?_
    refine z_goto (tgt := 123) d_M_empty_140 (by decide) ?_
    exact ihf
  rw [zit_fl (g := fun k => -1)]
  show zG (zcx l E b_M_empty "PointsToRoundsModel" 2 (none) false rm_M_empty (tp E A X) sz (zPv (tp E A (tEm X)))) 0 0 123 [some (.ref (A 44)), some (.int (nI 1200))] [] (tp E A (fl (fl (fl (fl (fl (fl X 20 1260 (fun k => nI 0)) 22 160 (fun k => nI 0)) 24 20 (fun k => nI 0)) 26 4 (fun k => nI 0)) 28 10 (fun k => tRe (cn X 4) k)) 30 1200 (fun k => -1)))
  refine z_iload_n d_M_empty_123 rfl ?_
  refine z_sipush d_M_empty_124 sp_1200 ?_
  refine z_icmp_ge (tgt := 143) d_M_empty_127 (by decide) (fun c127 => ?_) (fun c127 => absurd (by decide +kernel) c127)
  exact z_vret rfl d_M_empty_143 (zlq rfl) (zlq rfl) (⟨rfl, rfl⟩)
abbrev rm_M_copy : Room := { frames := 0, cells := 0, slots := 0, locals := 0 }
set_option maxHeartbeats 4000000 in
set_option maxRecDepth 100000 in
theorem c_M_copy (l : Launch) (E : zE) {A : Nat → Nat} (hA : tmI A) (X : zSt) : zM l E y_M_copy b_M_copy 2 (none) rm_M_copy [.ref (A 44)] (tp E A X) (zPv (tp E A (tCp X))) := by
  refine zM_w (by decide +kernel) rfl rfl (fun sz => ?_)
  refine z_iconst d_M_copy_0 ic_0 ?_
  refine z_istore_n d_M_copy_1 (zlt rfl) ?_
  refine zlp (Gh := fun (kz : Nat) (Z : zSt) => zG (zcx l E b_M_copy "PointsToRoundsModel" 2 (none) false rm_M_copy (tp E A X) sz (zPv (tp E A (tCp X)))) 0 0 2 [some (.ref (A 44)), some (.int (nI (kz)))] [] (tp E A Z)) (f := fun k Y => va_up Y 21 (upd (Y 21) k (Y 20 k))) (N := 1260) (x0 := X) ?_ ?_
  rotate_left
  · intro a ha iha
    generalize zit _ a _ = Ya at iha ⊢
    show zG (zcx l E b_M_copy "PointsToRoundsModel" 2 (none) false rm_M_copy (tp E A X) sz (zPv (tp E A (tCp X)))) 0 0 2 [some (.ref (A 44)), some (.int (nI (a)))] [] (tp E A Ya)
    try dsimp only at iha
    refine z_iload_n d_M_copy_2 rfl ?_
    refine z_sipush d_M_copy_3 sp_1260 ?_
    refine z_icmp_ge (tgt := 27) d_M_copy_6 (by decide) (fun c6 => absurd c6 (nI_ge ha (by omega))) (fun c6 => ?_)
    have c6n := (not_congr (nI_leI (by omega) (by omega))).mp c6
    refine z_aload_n d_M_copy_9 rfl ?_
    refine z_get fa_M_52 d_M_copy_10 (tp_o hA) rfl ?_
    refine z_iload_n d_M_copy_13 rfl ?_
    refine z_aload_n d_M_copy_14 rfl ?_
    refine z_get fa_M_49 d_M_copy_15 (tp_o hA) rfl ?_
    refine z_iload_n d_M_copy_18 rfl ?_
    refine z_iald (a) d_M_copy_19 (tp_a hA 20 rfl) rfl (show a < 1260 from by omega) (by decide) ?_
    refine t_ast (kf := 21) (j := a) d_M_copy_20 hA rfl rfl (show a < 1260 from by omega) (by decide) ?_
    refine z_iinc (v := nI (a + 1)) d_M_copy_21 (zlt rfl) rfl (zinc _) ?_
    refine z_goto (tgt := 2) d_M_copy_24 (by decide) ?_
    exact iha
  rw [zit_cp (by decide)]
  show zG (zcx l E b_M_copy "PointsToRoundsModel" 2 (none) false rm_M_copy (tp E A X) sz (zPv (tp E A (tCp X)))) 0 0 2 [some (.ref (A 44)), some (.int (nI 1260))] [] (tp E A (cpy X 21 20 1260))
  refine z_iload_n d_M_copy_2 rfl ?_
  refine z_sipush d_M_copy_3 sp_1260 ?_
  refine z_icmp_ge (tgt := 27) d_M_copy_6 (by decide) (fun c6 => ?_) (fun c6 => absurd (by decide +kernel) c6)
  refine z_iconst d_M_copy_27 ic_0 ?_
  refine z_istore_n d_M_copy_28 (zlt rfl) ?_
  refine zlp (Gh := fun (kz : Nat) (Z : zSt) => zG (zcx l E b_M_copy "PointsToRoundsModel" 2 (none) false rm_M_copy (tp E A X) sz (zPv (tp E A (tCp X)))) 0 0 29 [some (.ref (A 44)), some (.int (nI (kz)))] [] (tp E A Z)) (f := fun k Y => va_up Y 23 (upd (Y 23) k (Y 22 k))) (N := 160) (x0 := (cpy X 21 20 1260)) ?_ ?_
  rotate_left
  · intro b hb ihb
    generalize zit _ b _ = Yb at ihb ⊢
    show zG (zcx l E b_M_copy "PointsToRoundsModel" 2 (none) false rm_M_copy (tp E A X) sz (zPv (tp E A (tCp X)))) 0 0 29 [some (.ref (A 44)), some (.int (nI (b)))] [] (tp E A Yb)
    try dsimp only at ihb
    refine z_iload_n d_M_copy_29 rfl ?_
    refine z_sipush d_M_copy_30 sp_160 ?_
    refine z_icmp_ge (tgt := 54) d_M_copy_33 (by decide) (fun c33 => absurd c33 (nI_ge hb (by omega))) (fun c33 => ?_)
    have c33n := (not_congr (nI_leI (by omega) (by omega))).mp c33
    refine z_aload_n d_M_copy_36 rfl ?_
    refine z_get fa_M_58 d_M_copy_37 (tp_o hA) rfl ?_
    refine z_iload_n d_M_copy_40 rfl ?_
    refine z_aload_n d_M_copy_41 rfl ?_
    refine z_get fa_M_55 d_M_copy_42 (tp_o hA) rfl ?_
    refine z_iload_n d_M_copy_45 rfl ?_
    refine z_iald (b) d_M_copy_46 (tp_a hA 22 rfl) rfl (show b < 160 from by omega) (by decide) ?_
    refine t_ast (kf := 23) (j := b) d_M_copy_47 hA rfl rfl (show b < 160 from by omega) (by decide) ?_
    refine z_iinc (v := nI (b + 1)) d_M_copy_48 (zlt rfl) rfl (zinc _) ?_
    refine z_goto (tgt := 29) d_M_copy_51 (by decide) ?_
    exact ihb
  rw [zit_cp (by decide)]
  show zG (zcx l E b_M_copy "PointsToRoundsModel" 2 (none) false rm_M_copy (tp E A X) sz (zPv (tp E A (tCp X)))) 0 0 29 [some (.ref (A 44)), some (.int (nI 160))] [] (tp E A (cpy (cpy X 21 20 1260) 23 22 160))
  refine z_iload_n d_M_copy_29 rfl ?_
  refine z_sipush d_M_copy_30 sp_160 ?_
  refine z_icmp_ge (tgt := 54) d_M_copy_33 (by decide) (fun c33 => ?_) (fun c33 => absurd (by decide +kernel) c33)
  refine z_iconst d_M_copy_54 ic_0 ?_
  refine z_istore_n d_M_copy_55 (zlt rfl) ?_
  refine zlp (Gh := fun (kz : Nat) (Z : zSt) => zG (zcx l E b_M_copy "PointsToRoundsModel" 2 (none) false rm_M_copy (tp E A X) sz (zPv (tp E A (tCp X)))) 0 0 56 [some (.ref (A 44)), some (.int (nI (kz)))] [] (tp E A Z)) (f := fun k Y => va_up Y 25 (upd (Y 25) k (Y 24 k))) (N := 20) (x0 := (cpy (cpy X 21 20 1260) 23 22 160)) ?_ ?_
  rotate_left
  · intro c hc ihc
    generalize zit _ c _ = Yc at ihc ⊢
    show zG (zcx l E b_M_copy "PointsToRoundsModel" 2 (none) false rm_M_copy (tp E A X) sz (zPv (tp E A (tCp X)))) 0 0 56 [some (.ref (A 44)), some (.int (nI (c)))] [] (tp E A Yc)
    try dsimp only at ihc
    refine z_iload_n d_M_copy_56 rfl ?_
    refine z_bipush d_M_copy_57 bp_20 ?_
    refine z_icmp_ge (tgt := 80) d_M_copy_59 (by decide) (fun c59 => absurd c59 (nI_ge hc (by omega))) (fun c59 => ?_)
    have c59n := (not_congr (nI_leI (by omega) (by omega))).mp c59
    refine z_aload_n d_M_copy_62 rfl ?_
    refine z_get fa_M_64 d_M_copy_63 (tp_o hA) rfl ?_
    refine z_iload_n d_M_copy_66 rfl ?_
    refine z_aload_n d_M_copy_67 rfl ?_
    refine z_get fa_M_61 d_M_copy_68 (tp_o hA) rfl ?_
    refine z_iload_n d_M_copy_71 rfl ?_
    refine z_iald (c) d_M_copy_72 (tp_a hA 24 rfl) rfl (show c < 20 from by omega) (by decide) ?_
    refine t_ast (kf := 25) (j := c) d_M_copy_73 hA rfl rfl (show c < 20 from by omega) (by decide) ?_
    refine z_iinc (v := nI (c + 1)) d_M_copy_74 (zlt rfl) rfl (zinc _) ?_
    refine z_goto (tgt := 56) d_M_copy_77 (by decide) ?_
    exact ihc
  rw [zit_cp (by decide)]
  show zG (zcx l E b_M_copy "PointsToRoundsModel" 2 (none) false rm_M_copy (tp E A X) sz (zPv (tp E A (tCp X)))) 0 0 56 [some (.ref (A 44)), some (.int (nI 20))] [] (tp E A (cpy (cpy (cpy X 21 20 1260) 23 22 160) 25 24 20))
  refine z_iload_n d_M_copy_56 rfl ?_
  refine z_bipush d_M_copy_57 bp_20 ?_
  refine z_icmp_ge (tgt := 80) d_M_copy_59 (by decide) (fun c59 => ?_) (fun c59 => absurd (by decide +kernel) c59)
  refine z_iconst d_M_copy_80 ic_0 ?_
  refine z_istore_n d_M_copy_81 (zlt rfl) ?_
  refine zlp (Gh := fun (kz : Nat) (Z : zSt) => zG (zcx l E b_M_copy "PointsToRoundsModel" 2 (none) false rm_M_copy (tp E A X) sz (zPv (tp E A (tCp X)))) 0 0 82 [some (.ref (A 44)), some (.int (nI (kz)))] [] (tp E A Z)) (f := fun k Y => va_up Y 27 (upd (Y 27) k (Y 26 k))) (N := 4) (x0 := (cpy (cpy (cpy X 21 20 1260) 23 22 160) 25 24 20)) ?_ ?_
  rotate_left
  · intro d hd ihd
    generalize zit _ d _ = Yd at ihd ⊢
    show zG (zcx l E b_M_copy "PointsToRoundsModel" 2 (none) false rm_M_copy (tp E A X) sz (zPv (tp E A (tCp X)))) 0 0 82 [some (.ref (A 44)), some (.int (nI (d)))] [] (tp E A Yd)
    try dsimp only at ihd
    refine z_iload_n d_M_copy_82 rfl ?_
    refine z_iconst d_M_copy_83 ic_4 ?_
    refine z_icmp_ge (tgt := 105) d_M_copy_84 (by decide) (fun c84 => absurd c84 (nI_ge hd (by omega))) (fun c84 => ?_)
    have c84n := (not_congr (nI_leI (by omega) (by omega))).mp c84
    refine z_aload_n d_M_copy_87 rfl ?_
    refine z_get fa_M_70 d_M_copy_88 (tp_o hA) rfl ?_
    refine z_iload_n d_M_copy_91 rfl ?_
    refine z_aload_n d_M_copy_92 rfl ?_
    refine z_get fa_M_67 d_M_copy_93 (tp_o hA) rfl ?_
    refine z_iload_n d_M_copy_96 rfl ?_
    refine z_iald (d) d_M_copy_97 (tp_a hA 26 rfl) rfl (show d < 4 from by omega) (by decide) ?_
    refine t_ast (kf := 27) (j := d) d_M_copy_98 hA rfl rfl (show d < 4 from by omega) (by decide) ?_
    refine z_iinc (v := nI (d + 1)) d_M_copy_99 (zlt rfl) rfl (zinc _) ?_
    refine z_goto (tgt := 82) d_M_copy_102 (by decide) ?_
    exact ihd
  rw [zit_cp (by decide)]
  show zG (zcx l E b_M_copy "PointsToRoundsModel" 2 (none) false rm_M_copy (tp E A X) sz (zPv (tp E A (tCp X)))) 0 0 82 [some (.ref (A 44)), some (.int (nI 4))] [] (tp E A (cpy (cpy (cpy (cpy X 21 20 1260) 23 22 160) 25 24 20) 27 26 4))
  refine z_iload_n d_M_copy_82 rfl ?_
  refine z_iconst d_M_copy_83 ic_4 ?_
  refine z_icmp_ge (tgt := 105) d_M_copy_84 (by decide) (fun c84 => ?_) (fun c84 => absurd (by decide +kernel) c84)
  refine z_iconst d_M_copy_105 ic_0 ?_
  refine z_istore_n d_M_copy_106 (zlt rfl) ?_
  refine zlp (Gh := fun (kz : Nat) (Z : zSt) => zG (zcx l E b_M_copy "PointsToRoundsModel" 2 (none) false rm_M_copy (tp E A X) sz (zPv (tp E A (tCp X)))) 0 0 107 [some (.ref (A 44)), some (.int (nI (kz)))] [] (tp E A Z)) (f := fun k Y => va_up Y 29 (upd (Y 29) k (Y 28 k))) (N := 10) (x0 := (cpy (cpy (cpy (cpy X 21 20 1260) 23 22 160) 25 24 20) 27 26 4)) ?_ ?_
  rotate_left
  · intro e he ihe
    generalize zit _ e _ = Ye at ihe ⊢
    show zG (zcx l E b_M_copy "PointsToRoundsModel" 2 (none) false rm_M_copy (tp E A X) sz (zPv (tp E A (tCp X)))) 0 0 107 [some (.ref (A 44)), some (.int (nI (e)))] [] (tp E A Ye)
    try dsimp only at ihe
    refine z_iload_n d_M_copy_107 rfl ?_
    refine z_bipush d_M_copy_108 bp_10 ?_
    refine z_icmp_ge (tgt := 131) d_M_copy_110 (by decide) (fun c110 => absurd c110 (nI_ge he (by omega))) (fun c110 => ?_)
    have c110n := (not_congr (nI_leI (by omega) (by omega))).mp c110
    refine z_aload_n d_M_copy_113 rfl ?_
    refine z_get fa_M_76 d_M_copy_114 (tp_o hA) rfl ?_
    refine z_iload_n d_M_copy_117 rfl ?_
    refine z_aload_n d_M_copy_118 rfl ?_
    refine z_get fa_M_73 d_M_copy_119 (tp_o hA) rfl ?_
    refine z_iload_n d_M_copy_122 rfl ?_
    refine z_iald (e) d_M_copy_123 (tp_a hA 28 rfl) rfl (show e < 10 from by omega) (by decide) ?_
    refine t_ast (kf := 29) (j := e) d_M_copy_124 hA rfl rfl (show e < 10 from by omega) (by decide) ?_
    refine z_iinc (v := nI (e + 1)) d_M_copy_125 (zlt rfl) rfl (zinc _) ?_
    refine z_goto (tgt := 107) d_M_copy_128 (by decide) ?_
    exact ihe
  rw [zit_cp (by decide)]
  show zG (zcx l E b_M_copy "PointsToRoundsModel" 2 (none) false rm_M_copy (tp E A X) sz (zPv (tp E A (tCp X)))) 0 0 107 [some (.ref (A 44)), some (.int (nI 10))] [] (tp E A (cpy (cpy (cpy (cpy (cpy X 21 20 1260) 23 22 160) 25 24 20) 27 26 4) 29 28 10))
  refine z_iload_n d_M_copy_107 rfl ?_
  refine z_bipush d_M_copy_108 bp_10 ?_
  refine z_icmp_ge (tgt := 131) d_M_copy_110 (by decide) (fun c110 => ?_) (fun c110 => absurd (by decide +kernel) c110)
  exact z_vret rfl d_M_copy_131 (zlq rfl) (zlq rfl) (⟨rfl, rfl⟩)
abbrev rm_M_swap : Room := { frames := 0, cells := 0, slots := 0, locals := 0 }
set_option maxHeartbeats 4000000 in
set_option maxRecDepth 100000 in
theorem c_M_swap (l : Launch) (E : zE) {A : Nat → Nat} (hA : tmI A) (X : zSt) : zM l E y_M_swap b_M_swap 2 (none) rm_M_swap [.ref (A 44)] (tp E A X) (zPv (tp E A (tSw X))) := by
  refine zM_w (by decide +kernel) rfl rfl (fun sz => ?_)
  refine z_iconst d_M_swap_0 ic_0 ?_
  refine z_istore_n d_M_swap_1 (zlt rfl) ?_
  refine zlp (Gh := fun (kz : Nat) (Z : zSt) => zG (zcx l E b_M_swap "PointsToRoundsModel" 2 (none) false rm_M_swap (tp E A X) sz (zPv (tp E A (tSw X)))) 0 0 2 [some (.ref (A 44)), some (.int (nI (kz)))] [] (tp E A Z)) (f := fun k Y => va_up Y 20 (upd (Y 20) k (Y 21 k))) (N := 1260) (x0 := X) ?_ ?_
  rotate_left
  · intro a ha iha
    generalize zit _ a _ = Ya at iha ⊢
    show zG (zcx l E b_M_swap "PointsToRoundsModel" 2 (none) false rm_M_swap (tp E A X) sz (zPv (tp E A (tSw X)))) 0 0 2 [some (.ref (A 44)), some (.int (nI (a)))] [] (tp E A Ya)
    try dsimp only at iha
    refine z_iload_n d_M_swap_2 rfl ?_
    refine z_sipush d_M_swap_3 sp_1260 ?_
    refine z_icmp_ge (tgt := 27) d_M_swap_6 (by decide) (fun c6 => absurd c6 (nI_ge ha (by omega))) (fun c6 => ?_)
    have c6n := (not_congr (nI_leI (by omega) (by omega))).mp c6
    refine z_aload_n d_M_swap_9 rfl ?_
    refine z_get fa_M_49 d_M_swap_10 (tp_o hA) rfl ?_
    refine z_iload_n d_M_swap_13 rfl ?_
    refine z_aload_n d_M_swap_14 rfl ?_
    refine z_get fa_M_52 d_M_swap_15 (tp_o hA) rfl ?_
    refine z_iload_n d_M_swap_18 rfl ?_
    refine z_iald (a) d_M_swap_19 (tp_a hA 21 rfl) rfl (show a < 1260 from by omega) (by decide) ?_
    refine t_ast (kf := 20) (j := a) d_M_swap_20 hA rfl rfl (show a < 1260 from by omega) (by decide) ?_
    refine z_iinc (v := nI (a + 1)) d_M_swap_21 (zlt rfl) rfl (zinc _) ?_
    refine z_goto (tgt := 2) d_M_swap_24 (by decide) ?_
    exact iha
  rw [zit_cp (by decide)]
  show zG (zcx l E b_M_swap "PointsToRoundsModel" 2 (none) false rm_M_swap (tp E A X) sz (zPv (tp E A (tSw X)))) 0 0 2 [some (.ref (A 44)), some (.int (nI 1260))] [] (tp E A (cpy X 20 21 1260))
  refine z_iload_n d_M_swap_2 rfl ?_
  refine z_sipush d_M_swap_3 sp_1260 ?_
  refine z_icmp_ge (tgt := 27) d_M_swap_6 (by decide) (fun c6 => ?_) (fun c6 => absurd (by decide +kernel) c6)
  refine z_iconst d_M_swap_27 ic_0 ?_
  refine z_istore_n d_M_swap_28 (zlt rfl) ?_
  refine zlp (Gh := fun (kz : Nat) (Z : zSt) => zG (zcx l E b_M_swap "PointsToRoundsModel" 2 (none) false rm_M_swap (tp E A X) sz (zPv (tp E A (tSw X)))) 0 0 29 [some (.ref (A 44)), some (.int (nI (kz)))] [] (tp E A Z)) (f := fun k Y => va_up Y 22 (upd (Y 22) k (Y 23 k))) (N := 160) (x0 := (cpy X 20 21 1260)) ?_ ?_
  rotate_left
  · intro b hb ihb
    generalize zit _ b _ = Yb at ihb ⊢
    show zG (zcx l E b_M_swap "PointsToRoundsModel" 2 (none) false rm_M_swap (tp E A X) sz (zPv (tp E A (tSw X)))) 0 0 29 [some (.ref (A 44)), some (.int (nI (b)))] [] (tp E A Yb)
    try dsimp only at ihb
    refine z_iload_n d_M_swap_29 rfl ?_
    refine z_sipush d_M_swap_30 sp_160 ?_
    refine z_icmp_ge (tgt := 54) d_M_swap_33 (by decide) (fun c33 => absurd c33 (nI_ge hb (by omega))) (fun c33 => ?_)
    have c33n := (not_congr (nI_leI (by omega) (by omega))).mp c33
    refine z_aload_n d_M_swap_36 rfl ?_
    refine z_get fa_M_55 d_M_swap_37 (tp_o hA) rfl ?_
    refine z_iload_n d_M_swap_40 rfl ?_
    refine z_aload_n d_M_swap_41 rfl ?_
    refine z_get fa_M_58 d_M_swap_42 (tp_o hA) rfl ?_
    refine z_iload_n d_M_swap_45 rfl ?_
    refine z_iald (b) d_M_swap_46 (tp_a hA 23 rfl) rfl (show b < 160 from by omega) (by decide) ?_
    refine t_ast (kf := 22) (j := b) d_M_swap_47 hA rfl rfl (show b < 160 from by omega) (by decide) ?_
    refine z_iinc (v := nI (b + 1)) d_M_swap_48 (zlt rfl) rfl (zinc _) ?_
    refine z_goto (tgt := 29) d_M_swap_51 (by decide) ?_
    exact ihb
  rw [zit_cp (by decide)]
  show zG (zcx l E b_M_swap "PointsToRoundsModel" 2 (none) false rm_M_swap (tp E A X) sz (zPv (tp E A (tSw X)))) 0 0 29 [some (.ref (A 44)), some (.int (nI 160))] [] (tp E A (cpy (cpy X 20 21 1260) 22 23 160))
  refine z_iload_n d_M_swap_29 rfl ?_
  refine z_sipush d_M_swap_30 sp_160 ?_
  refine z_icmp_ge (tgt := 54) d_M_swap_33 (by decide) (fun c33 => ?_) (fun c33 => absurd (by decide +kernel) c33)
  refine z_iconst d_M_swap_54 ic_0 ?_
  refine z_istore_n d_M_swap_55 (zlt rfl) ?_
  refine zlp (Gh := fun (kz : Nat) (Z : zSt) => zG (zcx l E b_M_swap "PointsToRoundsModel" 2 (none) false rm_M_swap (tp E A X) sz (zPv (tp E A (tSw X)))) 0 0 56 [some (.ref (A 44)), some (.int (nI (kz)))] [] (tp E A Z)) (f := fun k Y => va_up Y 24 (upd (Y 24) k (Y 25 k))) (N := 20) (x0 := (cpy (cpy X 20 21 1260) 22 23 160)) ?_ ?_
  rotate_left
  · intro c hc ihc
    generalize zit _ c _ = Yc at ihc ⊢
    show zG (zcx l E b_M_swap "PointsToRoundsModel" 2 (none) false rm_M_swap (tp E A X) sz (zPv (tp E A (tSw X)))) 0 0 56 [some (.ref (A 44)), some (.int (nI (c)))] [] (tp E A Yc)
    try dsimp only at ihc
    refine z_iload_n d_M_swap_56 rfl ?_
    refine z_bipush d_M_swap_57 bp_20 ?_
    refine z_icmp_ge (tgt := 80) d_M_swap_59 (by decide) (fun c59 => absurd c59 (nI_ge hc (by omega))) (fun c59 => ?_)
    have c59n := (not_congr (nI_leI (by omega) (by omega))).mp c59
    refine z_aload_n d_M_swap_62 rfl ?_
    refine z_get fa_M_61 d_M_swap_63 (tp_o hA) rfl ?_
    refine z_iload_n d_M_swap_66 rfl ?_
    refine z_aload_n d_M_swap_67 rfl ?_
    refine z_get fa_M_64 d_M_swap_68 (tp_o hA) rfl ?_
    refine z_iload_n d_M_swap_71 rfl ?_
    refine z_iald (c) d_M_swap_72 (tp_a hA 25 rfl) rfl (show c < 20 from by omega) (by decide) ?_
    refine t_ast (kf := 24) (j := c) d_M_swap_73 hA rfl rfl (show c < 20 from by omega) (by decide) ?_
    refine z_iinc (v := nI (c + 1)) d_M_swap_74 (zlt rfl) rfl (zinc _) ?_
    refine z_goto (tgt := 56) d_M_swap_77 (by decide) ?_
    exact ihc
  rw [zit_cp (by decide)]
  show zG (zcx l E b_M_swap "PointsToRoundsModel" 2 (none) false rm_M_swap (tp E A X) sz (zPv (tp E A (tSw X)))) 0 0 56 [some (.ref (A 44)), some (.int (nI 20))] [] (tp E A (cpy (cpy (cpy X 20 21 1260) 22 23 160) 24 25 20))
  refine z_iload_n d_M_swap_56 rfl ?_
  refine z_bipush d_M_swap_57 bp_20 ?_
  refine z_icmp_ge (tgt := 80) d_M_swap_59 (by decide) (fun c59 => ?_) (fun c59 => absurd (by decide +kernel) c59)
  refine z_iconst d_M_swap_80 ic_0 ?_
  refine z_istore_n d_M_swap_81 (zlt rfl) ?_
  refine zlp (Gh := fun (kz : Nat) (Z : zSt) => zG (zcx l E b_M_swap "PointsToRoundsModel" 2 (none) false rm_M_swap (tp E A X) sz (zPv (tp E A (tSw X)))) 0 0 82 [some (.ref (A 44)), some (.int (nI (kz)))] [] (tp E A Z)) (f := fun k Y => va_up Y 26 (upd (Y 26) k (Y 27 k))) (N := 4) (x0 := (cpy (cpy (cpy X 20 21 1260) 22 23 160) 24 25 20)) ?_ ?_
  rotate_left
  · intro d hd ihd
    generalize zit _ d _ = Yd at ihd ⊢
    show zG (zcx l E b_M_swap "PointsToRoundsModel" 2 (none) false rm_M_swap (tp E A X) sz (zPv (tp E A (tSw X)))) 0 0 82 [some (.ref (A 44)), some (.int (nI (d)))] [] (tp E A Yd)
    try dsimp only at ihd
    refine z_iload_n d_M_swap_82 rfl ?_
    refine z_iconst d_M_swap_83 ic_4 ?_
    refine z_icmp_ge (tgt := 105) d_M_swap_84 (by decide) (fun c84 => absurd c84 (nI_ge hd (by omega))) (fun c84 => ?_)
    have c84n := (not_congr (nI_leI (by omega) (by omega))).mp c84
    refine z_aload_n d_M_swap_87 rfl ?_
    refine z_get fa_M_67 d_M_swap_88 (tp_o hA) rfl ?_
    refine z_iload_n d_M_swap_91 rfl ?_
    refine z_aload_n d_M_swap_92 rfl ?_
    refine z_get fa_M_70 d_M_swap_93 (tp_o hA) rfl ?_
    refine z_iload_n d_M_swap_96 rfl ?_
    refine z_iald (d) d_M_swap_97 (tp_a hA 27 rfl) rfl (show d < 4 from by omega) (by decide) ?_
    refine t_ast (kf := 26) (j := d) d_M_swap_98 hA rfl rfl (show d < 4 from by omega) (by decide) ?_
    refine z_iinc (v := nI (d + 1)) d_M_swap_99 (zlt rfl) rfl (zinc _) ?_
    refine z_goto (tgt := 82) d_M_swap_102 (by decide) ?_
    exact ihd
  rw [zit_cp (by decide)]
  show zG (zcx l E b_M_swap "PointsToRoundsModel" 2 (none) false rm_M_swap (tp E A X) sz (zPv (tp E A (tSw X)))) 0 0 82 [some (.ref (A 44)), some (.int (nI 4))] [] (tp E A (cpy (cpy (cpy (cpy X 20 21 1260) 22 23 160) 24 25 20) 26 27 4))
  refine z_iload_n d_M_swap_82 rfl ?_
  refine z_iconst d_M_swap_83 ic_4 ?_
  refine z_icmp_ge (tgt := 105) d_M_swap_84 (by decide) (fun c84 => ?_) (fun c84 => absurd (by decide +kernel) c84)
  refine z_iconst d_M_swap_105 ic_0 ?_
  refine z_istore_n d_M_swap_106 (zlt rfl) ?_
  refine zlp (Gh := fun (kz : Nat) (Z : zSt) => zG (zcx l E b_M_swap "PointsToRoundsModel" 2 (none) false rm_M_swap (tp E A X) sz (zPv (tp E A (tSw X)))) 0 0 107 [some (.ref (A 44)), some (.int (nI (kz)))] [] (tp E A Z)) (f := fun k Y => va_up Y 28 (upd (Y 28) k (Y 29 k))) (N := 10) (x0 := (cpy (cpy (cpy (cpy X 20 21 1260) 22 23 160) 24 25 20) 26 27 4)) ?_ ?_
  rotate_left
  · intro e he ihe
    generalize zit _ e _ = Ye at ihe ⊢
    show zG (zcx l E b_M_swap "PointsToRoundsModel" 2 (none) false rm_M_swap (tp E A X) sz (zPv (tp E A (tSw X)))) 0 0 107 [some (.ref (A 44)), some (.int (nI (e)))] [] (tp E A Ye)
    try dsimp only at ihe
    refine z_iload_n d_M_swap_107 rfl ?_
    refine z_bipush d_M_swap_108 bp_10 ?_
    refine z_icmp_ge (tgt := 131) d_M_swap_110 (by decide) (fun c110 => absurd c110 (nI_ge he (by omega))) (fun c110 => ?_)
    have c110n := (not_congr (nI_leI (by omega) (by omega))).mp c110
    refine z_aload_n d_M_swap_113 rfl ?_
    refine z_get fa_M_73 d_M_swap_114 (tp_o hA) rfl ?_
    refine z_iload_n d_M_swap_117 rfl ?_
    refine z_aload_n d_M_swap_118 rfl ?_
    refine z_get fa_M_76 d_M_swap_119 (tp_o hA) rfl ?_
    refine z_iload_n d_M_swap_122 rfl ?_
    refine z_iald (e) d_M_swap_123 (tp_a hA 29 rfl) rfl (show e < 10 from by omega) (by decide) ?_
    refine t_ast (kf := 28) (j := e) d_M_swap_124 hA rfl rfl (show e < 10 from by omega) (by decide) ?_
    refine z_iinc (v := nI (e + 1)) d_M_swap_125 (zlt rfl) rfl (zinc _) ?_
    refine z_goto (tgt := 107) d_M_swap_128 (by decide) ?_
    exact ihe
  rw [zit_cp (by decide)]
  show zG (zcx l E b_M_swap "PointsToRoundsModel" 2 (none) false rm_M_swap (tp E A X) sz (zPv (tp E A (tSw X)))) 0 0 107 [some (.ref (A 44)), some (.int (nI 10))] [] (tp E A (cpy (cpy (cpy (cpy (cpy X 20 21 1260) 22 23 160) 24 25 20) 26 27 4) 28 29 10))
  refine z_iload_n d_M_swap_107 rfl ?_
  refine z_bipush d_M_swap_108 bp_10 ?_
  refine z_icmp_ge (tgt := 131) d_M_swap_110 (by decide) (fun c110 => ?_) (fun c110 => absurd (by decide +kernel) c110)
  exact z_vret rfl d_M_swap_131 (zlq rfl) (zlq rfl) (⟨rfl, rfl⟩)
abbrev rm_M_isSame : Room := { frames := 0, cells := 0, slots := 0, locals := 0 }
set_option maxHeartbeats 4000000 in
set_option maxRecDepth 100000 in
theorem c_M_isSame (l : Launch) (E : zE) {A : Nat → Nat} (hA : tmI A) (X : zSt) : zM l E y_M_isSame b_M_isSame 3 ((some .boolean)) rm_M_isSame [.ref (A 44)] (tp E A X) (zPi (bI (tSame X)) (tp E A X)) := by
  refine zM_w (by decide +kernel) rfl rfl (fun sz => ?_)
  refine z_iconst d_M_isSame_0 ic_1 ?_
  refine z_istore_n d_M_isSame_1 (zlt rfl) ?_
  refine z_iconst d_M_isSame_2 ic_0 ?_
  refine z_istore_n d_M_isSame_3 (zlt rfl) ?_
  refine zlp (Gh := fun (kz : Nat) (z : Bool) => zG (zcx l E b_M_isSame "PointsToRoundsModel" 3 ((some .boolean)) false rm_M_isSame (tp E A X) sz (zPi (bI (tSame X)) (tp E A X))) 0 0 4 [some (.ref (A 44)), some (.int (bI (z))), some (.int (nI (kz)))] [] (tp E A X)) (f := fun k z => z && decide (X 21 k = X 20 k)) (N := 1260) (x0 := true) ?_ ?_
  rotate_left
  · intro a ha iha
    generalize zit _ a _ = za at iha ⊢
    show zG (zcx l E b_M_isSame "PointsToRoundsModel" 3 ((some .boolean)) false rm_M_isSame (tp E A X) sz (zPi (bI (tSame X)) (tp E A X))) 0 0 4 [some (.ref (A 44)), some (.int (bI (za))), some (.int (nI (a)))] [] (tp E A X)
    try dsimp only at iha
    refine z_iload_n d_M_isSame_4 rfl ?_
    refine z_sipush d_M_isSame_5 sp_1260 ?_
    refine z_icmp_ge (tgt := 42) d_M_isSame_8 (by decide) (fun c8 => absurd c8 (nI_ge ha (by omega))) (fun c8 => ?_)
    have c8n := (not_congr (nI_leI (by omega) (by omega))).mp c8
    refine z_iload_n d_M_isSame_11 rfl ?_
    refine z_if_eq (tgt := 34) d_M_isSame_12 (by decide) (fun c12 => ?_) (fun c12 => ?_)
    · have c12n := bI_e.mp c12
      refine z_iconst d_M_isSame_34 ic_0 ?_
      refine z_istore_n d_M_isSame_35 (zlt rfl) ?_
      refine z_iinc (v := nI (a + 1)) d_M_isSame_36 (zlt rfl) rfl (zinc _) ?_
      refine z_goto (tgt := 4) d_M_isSame_39 (by decide) ?_
      rw [show (za && decide (X 21 a = X 20 a)) = false from by simp [*]] at iha
      exact iha
    · have c12n := bI_n.mp c12
      refine z_aload_n d_M_isSame_15 rfl ?_
      refine z_get fa_M_52 d_M_isSame_16 (tp_o hA) rfl ?_
      refine z_iload_n d_M_isSame_19 rfl ?_
      refine z_iald (a) d_M_isSame_20 (tp_a hA 21 rfl) rfl (show a < 1260 from by omega) (by decide) ?_
      refine z_aload_n d_M_isSame_21 rfl ?_
      refine z_get fa_M_49 d_M_isSame_22 (tp_o hA) rfl ?_
      refine z_iload_n d_M_isSame_25 rfl ?_
      refine z_iald (a) d_M_isSame_26 (tp_a hA 20 rfl) rfl (show a < 1260 from by omega) (by decide) ?_
      refine z_icmp_ne (tgt := 34) d_M_isSame_27 (by decide) (fun c27 => ?_) (fun c27 => ?_)
      · refine z_iconst d_M_isSame_34 ic_0 ?_
        refine z_istore_n d_M_isSame_35 (zlt rfl) ?_
        refine z_iinc (v := nI (a + 1)) d_M_isSame_36 (zlt rfl) rfl (zinc _) ?_
        refine z_goto (tgt := 4) d_M_isSame_39 (by decide) ?_
        rw [show (za && decide (X 21 a = X 20 a)) = false from by simp [*]] at iha
        exact iha
      · refine z_iconst d_M_isSame_30 ic_1 ?_
        refine z_goto (tgt := 35) d_M_isSame_31 (by decide) ?_
        refine z_istore_n d_M_isSame_35 (zlt rfl) ?_
        refine z_iinc (v := nI (a + 1)) d_M_isSame_36 (zlt rfl) rfl (zinc _) ?_
        refine z_goto (tgt := 4) d_M_isSame_39 (by decide) ?_
        rw [show (za && decide (X 21 a = X 20 a)) = true from by simp [*]] at iha
        exact iha
  show zG (zcx l E b_M_isSame "PointsToRoundsModel" 3 ((some .boolean)) false rm_M_isSame (tp E A X) sz (zPi (bI (tSame X)) (tp E A X))) 0 0 4 [some (.ref (A 44)), some (.int (bI (zit (fun k z => z && decide (X 21 k = X 20 k)) (1260) (true)))), some (.int (nI 1260))] [] (tp E A X)
  refine z_iload_n d_M_isSame_4 rfl ?_
  refine z_sipush d_M_isSame_5 sp_1260 ?_
  refine z_icmp_ge (tgt := 42) d_M_isSame_8 (by decide) (fun c8 => ?_) (fun c8 => absurd (by decide +kernel) c8)
  refine z_iconst d_M_isSame_42 ic_0 ?_
  refine z_istore_n d_M_isSame_43 (zlt rfl) ?_
  refine zlp (Gh := fun (kz : Nat) (z : Bool) => zG (zcx l E b_M_isSame "PointsToRoundsModel" 3 ((some .boolean)) false rm_M_isSame (tp E A X) sz (zPi (bI (tSame X)) (tp E A X))) 0 0 44 [some (.ref (A 44)), some (.int (bI (z))), some (.int (nI (kz)))] [] (tp E A X)) (f := fun k z => z && decide (X 23 k = X 22 k)) (N := 160) (x0 := zit (fun k z => z && decide (X 21 k = X 20 k)) (1260) (true)) ?_ ?_
  rotate_left
  · intro b hb ihb
    generalize zit _ b _ = zb at ihb ⊢
    show zG (zcx l E b_M_isSame "PointsToRoundsModel" 3 ((some .boolean)) false rm_M_isSame (tp E A X) sz (zPi (bI (tSame X)) (tp E A X))) 0 0 44 [some (.ref (A 44)), some (.int (bI (zb))), some (.int (nI (b)))] [] (tp E A X)
    try dsimp only at ihb
    refine z_iload_n d_M_isSame_44 rfl ?_
    refine z_sipush d_M_isSame_45 sp_160 ?_
    refine z_icmp_ge (tgt := 82) d_M_isSame_48 (by decide) (fun c48 => absurd c48 (nI_ge hb (by omega))) (fun c48 => ?_)
    have c48n := (not_congr (nI_leI (by omega) (by omega))).mp c48
    refine z_iload_n d_M_isSame_51 rfl ?_
    refine z_if_eq (tgt := 74) d_M_isSame_52 (by decide) (fun c52 => ?_) (fun c52 => ?_)
    · have c52n := bI_e.mp c52
      refine z_iconst d_M_isSame_74 ic_0 ?_
      refine z_istore_n d_M_isSame_75 (zlt rfl) ?_
      refine z_iinc (v := nI (b + 1)) d_M_isSame_76 (zlt rfl) rfl (zinc _) ?_
      refine z_goto (tgt := 44) d_M_isSame_79 (by decide) ?_
      rw [show (zb && decide (X 23 b = X 22 b)) = false from by simp [*]] at ihb
      exact ihb
    · have c52n := bI_n.mp c52
      refine z_aload_n d_M_isSame_55 rfl ?_
      refine z_get fa_M_58 d_M_isSame_56 (tp_o hA) rfl ?_
      refine z_iload_n d_M_isSame_59 rfl ?_
      refine z_iald (b) d_M_isSame_60 (tp_a hA 23 rfl) rfl (show b < 160 from by omega) (by decide) ?_
      refine z_aload_n d_M_isSame_61 rfl ?_
      refine z_get fa_M_55 d_M_isSame_62 (tp_o hA) rfl ?_
      refine z_iload_n d_M_isSame_65 rfl ?_
      refine z_iald (b) d_M_isSame_66 (tp_a hA 22 rfl) rfl (show b < 160 from by omega) (by decide) ?_
      refine z_icmp_ne (tgt := 74) d_M_isSame_67 (by decide) (fun c67 => ?_) (fun c67 => ?_)
      · refine z_iconst d_M_isSame_74 ic_0 ?_
        refine z_istore_n d_M_isSame_75 (zlt rfl) ?_
        refine z_iinc (v := nI (b + 1)) d_M_isSame_76 (zlt rfl) rfl (zinc _) ?_
        refine z_goto (tgt := 44) d_M_isSame_79 (by decide) ?_
        rw [show (zb && decide (X 23 b = X 22 b)) = false from by simp [*]] at ihb
        exact ihb
      · refine z_iconst d_M_isSame_70 ic_1 ?_
        refine z_goto (tgt := 75) d_M_isSame_71 (by decide) ?_
        refine z_istore_n d_M_isSame_75 (zlt rfl) ?_
        refine z_iinc (v := nI (b + 1)) d_M_isSame_76 (zlt rfl) rfl (zinc _) ?_
        refine z_goto (tgt := 44) d_M_isSame_79 (by decide) ?_
        rw [show (zb && decide (X 23 b = X 22 b)) = true from by simp [*]] at ihb
        exact ihb
  show zG (zcx l E b_M_isSame "PointsToRoundsModel" 3 ((some .boolean)) false rm_M_isSame (tp E A X) sz (zPi (bI (tSame X)) (tp E A X))) 0 0 44 [some (.ref (A 44)), some (.int (bI (zit (fun k z => z && decide (X 23 k = X 22 k)) (160) (zit (fun k z => z && decide (X 21 k = X 20 k)) (1260) (true))))), some (.int (nI 160))] [] (tp E A X)
  refine z_iload_n d_M_isSame_44 rfl ?_
  refine z_sipush d_M_isSame_45 sp_160 ?_
  refine z_icmp_ge (tgt := 82) d_M_isSame_48 (by decide) (fun c48 => ?_) (fun c48 => absurd (by decide +kernel) c48)
  refine z_iconst d_M_isSame_82 ic_0 ?_
  refine z_istore_n d_M_isSame_83 (zlt rfl) ?_
  refine zlp (Gh := fun (kz : Nat) (z : Bool) => zG (zcx l E b_M_isSame "PointsToRoundsModel" 3 ((some .boolean)) false rm_M_isSame (tp E A X) sz (zPi (bI (tSame X)) (tp E A X))) 0 0 84 [some (.ref (A 44)), some (.int (bI (z))), some (.int (nI (kz)))] [] (tp E A X)) (f := fun k z => z && decide (X 25 k = X 24 k)) (N := 20) (x0 := zit (fun k z => z && decide (X 23 k = X 22 k)) (160) (zit (fun k z => z && decide (X 21 k = X 20 k)) (1260) (true))) ?_ ?_
  rotate_left
  · intro c hc ihc
    generalize zit _ c _ = zc at ihc ⊢
    show zG (zcx l E b_M_isSame "PointsToRoundsModel" 3 ((some .boolean)) false rm_M_isSame (tp E A X) sz (zPi (bI (tSame X)) (tp E A X))) 0 0 84 [some (.ref (A 44)), some (.int (bI (zc))), some (.int (nI (c)))] [] (tp E A X)
    try dsimp only at ihc
    refine z_iload_n d_M_isSame_84 rfl ?_
    refine z_bipush d_M_isSame_85 bp_20 ?_
    refine z_icmp_ge (tgt := 121) d_M_isSame_87 (by decide) (fun c87 => absurd c87 (nI_ge hc (by omega))) (fun c87 => ?_)
    have c87n := (not_congr (nI_leI (by omega) (by omega))).mp c87
    refine z_iload_n d_M_isSame_90 rfl ?_
    refine z_if_eq (tgt := 113) d_M_isSame_91 (by decide) (fun c91 => ?_) (fun c91 => ?_)
    · have c91n := bI_e.mp c91
      refine z_iconst d_M_isSame_113 ic_0 ?_
      refine z_istore_n d_M_isSame_114 (zlt rfl) ?_
      refine z_iinc (v := nI (c + 1)) d_M_isSame_115 (zlt rfl) rfl (zinc _) ?_
      refine z_goto (tgt := 84) d_M_isSame_118 (by decide) ?_
      rw [show (zc && decide (X 25 c = X 24 c)) = false from by simp [*]] at ihc
      exact ihc
    · have c91n := bI_n.mp c91
      refine z_aload_n d_M_isSame_94 rfl ?_
      refine z_get fa_M_64 d_M_isSame_95 (tp_o hA) rfl ?_
      refine z_iload_n d_M_isSame_98 rfl ?_
      refine z_iald (c) d_M_isSame_99 (tp_a hA 25 rfl) rfl (show c < 20 from by omega) (by decide) ?_
      refine z_aload_n d_M_isSame_100 rfl ?_
      refine z_get fa_M_61 d_M_isSame_101 (tp_o hA) rfl ?_
      refine z_iload_n d_M_isSame_104 rfl ?_
      refine z_iald (c) d_M_isSame_105 (tp_a hA 24 rfl) rfl (show c < 20 from by omega) (by decide) ?_
      refine z_icmp_ne (tgt := 113) d_M_isSame_106 (by decide) (fun c106 => ?_) (fun c106 => ?_)
      · refine z_iconst d_M_isSame_113 ic_0 ?_
        refine z_istore_n d_M_isSame_114 (zlt rfl) ?_
        refine z_iinc (v := nI (c + 1)) d_M_isSame_115 (zlt rfl) rfl (zinc _) ?_
        refine z_goto (tgt := 84) d_M_isSame_118 (by decide) ?_
        rw [show (zc && decide (X 25 c = X 24 c)) = false from by simp [*]] at ihc
        exact ihc
      · refine z_iconst d_M_isSame_109 ic_1 ?_
        refine z_goto (tgt := 114) d_M_isSame_110 (by decide) ?_
        refine z_istore_n d_M_isSame_114 (zlt rfl) ?_
        refine z_iinc (v := nI (c + 1)) d_M_isSame_115 (zlt rfl) rfl (zinc _) ?_
        refine z_goto (tgt := 84) d_M_isSame_118 (by decide) ?_
        rw [show (zc && decide (X 25 c = X 24 c)) = true from by simp [*]] at ihc
        exact ihc
  show zG (zcx l E b_M_isSame "PointsToRoundsModel" 3 ((some .boolean)) false rm_M_isSame (tp E A X) sz (zPi (bI (tSame X)) (tp E A X))) 0 0 84 [some (.ref (A 44)), some (.int (bI (zit (fun k z => z && decide (X 25 k = X 24 k)) (20) (zit (fun k z => z && decide (X 23 k = X 22 k)) (160) (zit (fun k z => z && decide (X 21 k = X 20 k)) (1260) (true)))))), some (.int (nI 20))] [] (tp E A X)
  refine z_iload_n d_M_isSame_84 rfl ?_
  refine z_bipush d_M_isSame_85 bp_20 ?_
  refine z_icmp_ge (tgt := 121) d_M_isSame_87 (by decide) (fun c87 => ?_) (fun c87 => absurd (by decide +kernel) c87)
  refine z_iconst d_M_isSame_121 ic_0 ?_
  refine z_istore_n d_M_isSame_122 (zlt rfl) ?_
  refine zlp (Gh := fun (kz : Nat) (z : Bool) => zG (zcx l E b_M_isSame "PointsToRoundsModel" 3 ((some .boolean)) false rm_M_isSame (tp E A X) sz (zPi (bI (tSame X)) (tp E A X))) 0 0 123 [some (.ref (A 44)), some (.int (bI (z))), some (.int (nI (kz)))] [] (tp E A X)) (f := fun k z => z && decide (X 27 k = X 26 k)) (N := 4) (x0 := zit (fun k z => z && decide (X 25 k = X 24 k)) (20) (zit (fun k z => z && decide (X 23 k = X 22 k)) (160) (zit (fun k z => z && decide (X 21 k = X 20 k)) (1260) (true)))) ?_ ?_
  rotate_left
  · intro d hd ihd
    generalize zit _ d _ = zd at ihd ⊢
    show zG (zcx l E b_M_isSame "PointsToRoundsModel" 3 ((some .boolean)) false rm_M_isSame (tp E A X) sz (zPi (bI (tSame X)) (tp E A X))) 0 0 123 [some (.ref (A 44)), some (.int (bI (zd))), some (.int (nI (d)))] [] (tp E A X)
    try dsimp only at ihd
    refine z_iload_n d_M_isSame_123 rfl ?_
    refine z_iconst d_M_isSame_124 ic_4 ?_
    refine z_icmp_ge (tgt := 159) d_M_isSame_125 (by decide) (fun c125 => absurd c125 (nI_ge hd (by omega))) (fun c125 => ?_)
    have c125n := (not_congr (nI_leI (by omega) (by omega))).mp c125
    refine z_iload_n d_M_isSame_128 rfl ?_
    refine z_if_eq (tgt := 151) d_M_isSame_129 (by decide) (fun c129 => ?_) (fun c129 => ?_)
    · have c129n := bI_e.mp c129
      refine z_iconst d_M_isSame_151 ic_0 ?_
      refine z_istore_n d_M_isSame_152 (zlt rfl) ?_
      refine z_iinc (v := nI (d + 1)) d_M_isSame_153 (zlt rfl) rfl (zinc _) ?_
      refine z_goto (tgt := 123) d_M_isSame_156 (by decide) ?_
      rw [show (zd && decide (X 27 d = X 26 d)) = false from by simp [*]] at ihd
      exact ihd
    · have c129n := bI_n.mp c129
      refine z_aload_n d_M_isSame_132 rfl ?_
      refine z_get fa_M_70 d_M_isSame_133 (tp_o hA) rfl ?_
      refine z_iload_n d_M_isSame_136 rfl ?_
      refine z_iald (d) d_M_isSame_137 (tp_a hA 27 rfl) rfl (show d < 4 from by omega) (by decide) ?_
      refine z_aload_n d_M_isSame_138 rfl ?_
      refine z_get fa_M_67 d_M_isSame_139 (tp_o hA) rfl ?_
      refine z_iload_n d_M_isSame_142 rfl ?_
      refine z_iald (d) d_M_isSame_143 (tp_a hA 26 rfl) rfl (show d < 4 from by omega) (by decide) ?_
      refine z_icmp_ne (tgt := 151) d_M_isSame_144 (by decide) (fun c144 => ?_) (fun c144 => ?_)
      · refine z_iconst d_M_isSame_151 ic_0 ?_
        refine z_istore_n d_M_isSame_152 (zlt rfl) ?_
        refine z_iinc (v := nI (d + 1)) d_M_isSame_153 (zlt rfl) rfl (zinc _) ?_
        refine z_goto (tgt := 123) d_M_isSame_156 (by decide) ?_
        rw [show (zd && decide (X 27 d = X 26 d)) = false from by simp [*]] at ihd
        exact ihd
      · refine z_iconst d_M_isSame_147 ic_1 ?_
        refine z_goto (tgt := 152) d_M_isSame_148 (by decide) ?_
        refine z_istore_n d_M_isSame_152 (zlt rfl) ?_
        refine z_iinc (v := nI (d + 1)) d_M_isSame_153 (zlt rfl) rfl (zinc _) ?_
        refine z_goto (tgt := 123) d_M_isSame_156 (by decide) ?_
        rw [show (zd && decide (X 27 d = X 26 d)) = true from by simp [*]] at ihd
        exact ihd
  show zG (zcx l E b_M_isSame "PointsToRoundsModel" 3 ((some .boolean)) false rm_M_isSame (tp E A X) sz (zPi (bI (tSame X)) (tp E A X))) 0 0 123 [some (.ref (A 44)), some (.int (bI (zit (fun k z => z && decide (X 27 k = X 26 k)) (4) (zit (fun k z => z && decide (X 25 k = X 24 k)) (20) (zit (fun k z => z && decide (X 23 k = X 22 k)) (160) (zit (fun k z => z && decide (X 21 k = X 20 k)) (1260) (true))))))), some (.int (nI 4))] [] (tp E A X)
  refine z_iload_n d_M_isSame_123 rfl ?_
  refine z_iconst d_M_isSame_124 ic_4 ?_
  refine z_icmp_ge (tgt := 159) d_M_isSame_125 (by decide) (fun c125 => ?_) (fun c125 => absurd (by decide +kernel) c125)
  refine z_iconst d_M_isSame_159 ic_0 ?_
  refine z_istore_n d_M_isSame_160 (zlt rfl) ?_
  refine zlp (Gh := fun (kz : Nat) (z : Bool) => zG (zcx l E b_M_isSame "PointsToRoundsModel" 3 ((some .boolean)) false rm_M_isSame (tp E A X) sz (zPi (bI (tSame X)) (tp E A X))) 0 0 161 [some (.ref (A 44)), some (.int (bI (z))), some (.int (nI (kz)))] [] (tp E A X)) (f := fun k z => z && decide (X 29 k = X 28 k)) (N := 10) (x0 := zit (fun k z => z && decide (X 27 k = X 26 k)) (4) (zit (fun k z => z && decide (X 25 k = X 24 k)) (20) (zit (fun k z => z && decide (X 23 k = X 22 k)) (160) (zit (fun k z => z && decide (X 21 k = X 20 k)) (1260) (true))))) ?_ ?_
  rotate_left
  · intro e he ihe
    generalize zit _ e _ = ze at ihe ⊢
    show zG (zcx l E b_M_isSame "PointsToRoundsModel" 3 ((some .boolean)) false rm_M_isSame (tp E A X) sz (zPi (bI (tSame X)) (tp E A X))) 0 0 161 [some (.ref (A 44)), some (.int (bI (ze))), some (.int (nI (e)))] [] (tp E A X)
    try dsimp only at ihe
    refine z_iload_n d_M_isSame_161 rfl ?_
    refine z_bipush d_M_isSame_162 bp_10 ?_
    refine z_icmp_ge (tgt := 198) d_M_isSame_164 (by decide) (fun c164 => absurd c164 (nI_ge he (by omega))) (fun c164 => ?_)
    have c164n := (not_congr (nI_leI (by omega) (by omega))).mp c164
    refine z_iload_n d_M_isSame_167 rfl ?_
    refine z_if_eq (tgt := 190) d_M_isSame_168 (by decide) (fun c168 => ?_) (fun c168 => ?_)
    · have c168n := bI_e.mp c168
      refine z_iconst d_M_isSame_190 ic_0 ?_
      refine z_istore_n d_M_isSame_191 (zlt rfl) ?_
      refine z_iinc (v := nI (e + 1)) d_M_isSame_192 (zlt rfl) rfl (zinc _) ?_
      refine z_goto (tgt := 161) d_M_isSame_195 (by decide) ?_
      rw [show (ze && decide (X 29 e = X 28 e)) = false from by simp [*]] at ihe
      exact ihe
    · have c168n := bI_n.mp c168
      refine z_aload_n d_M_isSame_171 rfl ?_
      refine z_get fa_M_76 d_M_isSame_172 (tp_o hA) rfl ?_
      refine z_iload_n d_M_isSame_175 rfl ?_
      refine z_iald (e) d_M_isSame_176 (tp_a hA 29 rfl) rfl (show e < 10 from by omega) (by decide) ?_
      refine z_aload_n d_M_isSame_177 rfl ?_
      refine z_get fa_M_73 d_M_isSame_178 (tp_o hA) rfl ?_
      refine z_iload_n d_M_isSame_181 rfl ?_
      refine z_iald (e) d_M_isSame_182 (tp_a hA 28 rfl) rfl (show e < 10 from by omega) (by decide) ?_
      refine z_icmp_ne (tgt := 190) d_M_isSame_183 (by decide) (fun c183 => ?_) (fun c183 => ?_)
      · refine z_iconst d_M_isSame_190 ic_0 ?_
        refine z_istore_n d_M_isSame_191 (zlt rfl) ?_
        refine z_iinc (v := nI (e + 1)) d_M_isSame_192 (zlt rfl) rfl (zinc _) ?_
        refine z_goto (tgt := 161) d_M_isSame_195 (by decide) ?_
        rw [show (ze && decide (X 29 e = X 28 e)) = false from by simp [*]] at ihe
        exact ihe
      · refine z_iconst d_M_isSame_186 ic_1 ?_
        refine z_goto (tgt := 191) d_M_isSame_187 (by decide) ?_
        refine z_istore_n d_M_isSame_191 (zlt rfl) ?_
        refine z_iinc (v := nI (e + 1)) d_M_isSame_192 (zlt rfl) rfl (zinc _) ?_
        refine z_goto (tgt := 161) d_M_isSame_195 (by decide) ?_
        rw [show (ze && decide (X 29 e = X 28 e)) = true from by simp [*]] at ihe
        exact ihe
  show zG (zcx l E b_M_isSame "PointsToRoundsModel" 3 ((some .boolean)) false rm_M_isSame (tp E A X) sz (zPi (bI (tSame X)) (tp E A X))) 0 0 161 [some (.ref (A 44)), some (.int (bI (zit (fun k z => z && decide (X 29 k = X 28 k)) (10) (zit (fun k z => z && decide (X 27 k = X 26 k)) (4) (zit (fun k z => z && decide (X 25 k = X 24 k)) (20) (zit (fun k z => z && decide (X 23 k = X 22 k)) (160) (zit (fun k z => z && decide (X 21 k = X 20 k)) (1260) (true)))))))), some (.int (nI 10))] [] (tp E A X)
  refine z_iload_n d_M_isSame_161 rfl ?_
  refine z_bipush d_M_isSame_162 bp_10 ?_
  refine z_icmp_ge (tgt := 198) d_M_isSame_164 (by decide) (fun c164 => ?_) (fun c164 => absurd (by decide +kernel) c164)
  refine z_iload_n d_M_isSame_198 rfl ?_
  exact z_zret rfl (bI_z _) d_M_isSame_199 (zlq rfl) (zlq rfl) (⟨rfl, rfl⟩)
