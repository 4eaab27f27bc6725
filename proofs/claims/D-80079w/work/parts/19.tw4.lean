/-! the twin: rounds, the statements' effects -/
theorem cn_tsm {S : List Nat} {X Y : zSt} (h : tsm S X Y) {j : Nat} (hj : j ∉ S) : cn Y j = cn X j := by unfold cn; rw [h j hj]
theorem und_c {X Y : zSt} (h : Y 1 = X 1) : ∀ (f : Nat) (c a : Int32), und Y f c a = und X f c a := by
  intro f
  induction f with
  | zero => intro c a; rfl
  | succ f ih => intro c a; rw [und, und, h, ih]
theorem mwf_c {X Y : zSt} (h5 : Y 5 = X 5) (h6 : Y 6 = X 6) (c g : Int32) : ∀ (k j : Nat), mwf Y c g k j = mwf X c g k j := by
  intro k
  induction k with
  | zero => intro j; rfl
  | succ k ih => intro j; rw [mwf, mwf, h5, h6, ih]
theorem fdf_c {X Y : zSt} (h1 : Y 1 = X 1) (h4 : Y 4 = X 4) (h5 : Y 5 = X 5) (h6 : Y 6 = X 6) (g : Int32) : ∀ (f : Nat) (c : Int32), fdf Y g f c = fdf X g f c := by
  have e : ∀ c, tMw Y c g = tMw X c g := fun c => by unfold tMw cn; rw [h4, mwf_c h5 h6]
  intro f
  induction f with
  | zero => intro c; rfl
  | succ f ih => intro c; rw [fdf, fdf, h1, ih, e]
def tAll (X : zSt) (m n : Nat) : Int32 := zit (fun k z => z ||| X 20 (126 * (m) + 6 * (k) + n)) 21 (nI 0)
def tN1 (X : zSt) (r : Int32) (m n o : Nat) (Y : zSt) : zSt := if tb (tAll X m n) o = true then (if 0 ≤ Y 30 (120 * m + 20 * n + o) then Y else va_up Y 30 (upd (Y 30) (120 * m + 20 * n + o) r)) else Y
theorem tN1_tsm {X : zSt} {r : Int32} {m n o : Nat} {Y : zSt} : tsm [30] Y (tN1 X r m n o Y) := by
  unfold tN1
  split
  · split
    · exact tsm_rf
    · exact tsm_up (by decide)
  · exact tsm_rf
def tN2 (X : zSt) (r : Int32) (m n : Nat) (Y : zSt) : zSt := zit (fun o Y => tN1 X r m n o Y) (cn X 16) Y
def tN3 (X : zSt) (r : Int32) (m : Nat) (Y : zSt) : zSt := zit (fun n Y => tN2 X r m n Y) 6 Y
def tNote (X : zSt) (r : Int32) : zSt := zit (fun m Y => tN3 X r m Y) (cn X 4) X
theorem tN2_tsm {X : zSt} {r : Int32} {m n : Nat} {Y : zSt} : tsm [30] Y (tN2 X r m n Y) := zit_tsm (fun _ _ => tN1_tsm) _ _
theorem tN3_tsm {X : zSt} {r : Int32} {m : Nat} {Y : zSt} : tsm [30] Y (tN3 X r m Y) := zit_tsm (fun _ _ => tN2_tsm) _ _
theorem tNote_tsm {X : zSt} {r : Int32} : tsm [30] X (tNote X r) := zit_tsm (fun _ _ => tN3_tsm) _ _
def tRow (X : zSt) (i : Nat) (Y : zSt) : zSt := zit (fun c Y => if tb (X 28 (ne X 8 i)) c = true then tBr X i c Y else Y) 21 Y
theorem tRow_tsm {X : zSt} {i : Nat} {Y : zSt} : tsm THN Y (tRow X i Y) := zit_tsm (fun c Y => by (try dsimp only); split; exact tBr_tsm; exact tsm_rf) _ _
theorem fl_tsm {S : List Nat} {X : zSt} {a N : Nat} {g : Nat → Int32} (h : a ∈ S) : tsm S X (fl X a N g) := tsm_up h
theorem tCp_tsm {X : zSt} : tsm THN X (tCp X) := tsm_tr (tsm_tr (tsm_tr (tsm_tr (fl_tsm (by decide)) (fl_tsm (by decide))) (fl_tsm (by decide))) (fl_tsm (by decide))) (fl_tsm (by decide))
abbrev NOW : List Nat := [20, 22, 24, 26, 28]
theorem tSw_tsm {X : zSt} : tsm NOW X (tSw X) := tsm_tr (tsm_tr (tsm_tr (tsm_tr (fl_tsm (by decide)) (fl_tsm (by decide))) (fl_tsm (by decide))) (fl_tsm (by decide))) (fl_tsm (by decide))
def tRnd (X : zSt) : zSt := zit (fun i Y => tRow X i Y) (cn X 7) (tCp X)
theorem tRnd_tsm {X : zSt} : tsm THN X (tRnd X) := tsm_tr tCp_tsm (zit_tsm (fun _ _ => tRow_tsm) _ _)
def tNext (X : zSt) : zSt := tNote (va_up (tSw (tRnd X)) 31 (fun _ => X 31 0 + nI 1)) (X 31 0 + nI 1)
def tLoop : Nat → zSt → zSt
  | 0, X => X
  | f + 1, X => if tSame (tRnd X) = true then tRnd X else tLoop f (tNext X)
def tStops : Nat → zSt → Prop
  | 0, _ => False
  | f + 1, X => tSame (tRnd X) = true ∨ tStops f (tNext X)
def tK0 (X : zSt) : zSt := va_up (tEm (va_up X 19 (fun _ => nI 1))) 31 (fun _ => nI 0)
def tKnow (f : Nat) (X : zSt) : zSt := if X 19 0 = 0 then tLoop f (tK0 X) else X
theorem tEm_tsm {X : zSt} : tsm [20, 22, 24, 26, 28, 30] X (tEm X) := tsm_tr (tsm_tr (tsm_tr (tsm_tr (tsm_tr (fl_tsm (by decide)) (fl_tsm (by decide))) (fl_tsm (by decide))) (fl_tsm (by decide))) (fl_tsm (by decide))) (fl_tsm (by decide))
abbrev SETS : List Nat := [20, 21, 22, 23, 24, 25, 26, 27, 28, 29, 30, 31]
theorem SETS_19 : ∀ j, j ≤ 19 → j ∉ SETS := by
  intro j hj hm
  simp at hm
  omega
theorem tNext_tsm {X : zSt} : tsm SETS X (tNext X) := by
  unfold tNext
  refine tsm_tr (tsm_tr (tsm_tr (tsm_w tRnd_tsm (by decide)) (tsm_w tSw_tsm (by decide))) (tsm_up (by decide))) (tsm_w tNote_tsm (by decide))
theorem tLoop_tsm : ∀ (f : Nat) {X : zSt}, tsm SETS X (tLoop f X) := by
  intro f
  induction f with
  | zero => intro X; exact tsm_rf
  | succ f ih =>
    intro X
    rw [tLoop]
    split
    · exact tsm_w tRnd_tsm (by decide)
    · exact tsm_tr tNext_tsm ih
/-- the program part stays, known apart -/
theorem tInv_19 {X Y : zSt} (h : ∀ j, j ≤ 18 → Y j = X j) (hz : Y 19 0 = 0 ∨ Y 19 0 = 1) (hX : tInv X) : tInv Y := by
  obtain ⟨h1, h2, -, h4⟩ := hX
  unfold tInv tSok cn ne at *
  rw [h 0 (by omega), h 1 (by omega), h 2 (by omega), h 3 (by omega), h 4 (by omega), h 7 (by omega), h 8 (by omega), h 9 (by omega), h 10 (by omega), h 11 (by omega), h 12 (by omega), h 13 (by omega), h 14 (by omega), h 15 (by omega), h 16 (by omega), h 17 (by omega), h 18 (by omega)]
  exact ⟨h1, h2, hz, h4⟩
abbrev rm_M_allOf : Room := { frames := 1, cells := 0, slots := 0, locals := 22 }
set_option maxHeartbeats 4000000 in
set_option maxRecDepth 100000 in
theorem c_M_allOf (l : Launch) (E : zE) {A : Nat → Nat} (hA : tmI A) (X : zSt) (m n : Nat) (hm : m < 10) (hn : n < 6) : zM l E y_M_allOf b_M_allOf 5 ((some .int)) rm_M_allOf [.ref (A 44), .int (nI m), .int (nI n)] (tp E A X) (zPi (tAll X m n) (tp E A X)) := by
  refine zM_w (by decide +kernel) rfl rfl (fun sz => ?_)
  refine z_iconst d_M_allOf_0 ic_0 ?_
  refine z_istore_n d_M_allOf_1 (zlt rfl) ?_
  refine z_iconst d_M_allOf_2 ic_0 ?_
  refine z_istore d_M_allOf_3 (zlt rfl) ?_
  refine zlp (Gh := fun (kz : Nat) (z : Int32) => zG (zcx l E b_M_allOf "PointsToRoundsModel" 5 ((some .int)) false rm_M_allOf (tp E A X) sz (zPi (tAll X m n) (tp E A X))) 0 0 5 [some (.ref (A 44)), some (.int (nI (m))), some (.int (nI (n))), some (.int (z)), some (.int (nI (kz)))] [] (tp E A X)) (f := fun k z => z ||| X 20 (126 * (m) + 6 * (k) + n)) (N := 21) (x0 := nI 0) ?_ ?_
  rotate_left
  · intro c hc ihc
    generalize zit _ c _ = zc at ihc ⊢
    show zG (zcx l E b_M_allOf "PointsToRoundsModel" 5 ((some .int)) false rm_M_allOf (tp E A X) sz (zPi (tAll X m n) (tp E A X))) 0 0 5 [some (.ref (A 44)), some (.int (nI (m))), some (.int (nI (n))), some (.int (zc)), some (.int (nI (c)))] [] (tp E A X)
    try dsimp only at ihc
    refine z_iload d_M_allOf_5 rfl ?_
    refine z_bipush d_M_allOf_7 bp_21 ?_
    refine z_icmp_ge (tgt := 33) d_M_allOf_9 (by decide) (fun c9 => absurd c9 (nI_ge hc (by omega))) (fun c9 => ?_)
    have c9n := (not_congr (nI_leI (by omega) (by omega))).mp c9
    refine z_iload_n d_M_allOf_12 rfl ?_
    refine z_aload_n d_M_allOf_13 rfl ?_
    refine z_get fa_M_49 d_M_allOf_14 (tp_o hA) rfl ?_
    refine z_iload_n d_M_allOf_17 rfl ?_
    refine z_iload d_M_allOf_18 rfl ?_
    refine z_iload_n d_M_allOf_20 rfl ?_
    refine z_cSi (c_M_nameAt l E _ (m) (c) (n)) cb_M_nameAt cs_M_nameAt ln_M_166 rfl rfl (zlq rfl) rfl (zlq rfl) (zlq rfl) d_M_allOf_21 ?_
    refine z_iald (126 * (m) + 6 * (c) + n) d_M_allOf_24 (tp_a hA 20 rfl) rfl (show 126 * (m) + 6 * (c) + n < 1260 from by omega) (by decide) ?_
    refine z_ior d_M_allOf_25 ?_
    refine z_istore_n d_M_allOf_26 (zlt rfl) ?_
    refine z_iinc (v := nI (c + 1)) d_M_allOf_27 (zlt rfl) rfl (zinc _) ?_
    refine z_goto (tgt := 5) d_M_allOf_30 (by decide) ?_
    exact ihc
  show zG (zcx l E b_M_allOf "PointsToRoundsModel" 5 ((some .int)) false rm_M_allOf (tp E A X) sz (zPi (tAll X m n) (tp E A X))) 0 0 5 [some (.ref (A 44)), some (.int (nI (m))), some (.int (nI (n))), some (.int (zit (fun k z => z ||| X 20 (126 * (m) + 6 * (k) + n)) (21) (nI 0))), some (.int (nI 21))] [] (tp E A X)
  refine z_iload d_M_allOf_5 rfl ?_
  refine z_bipush d_M_allOf_7 bp_21 ?_
  refine z_icmp_ge (tgt := 33) d_M_allOf_9 (by decide) (fun c9 => ?_) (fun c9 => absurd (by decide +kernel) c9)
  refine z_iload_n d_M_allOf_33 rfl ?_
  exact z_iret rfl d_M_allOf_34 (zlq rfl) (zlq rfl) (⟨rfl, rfl⟩)
theorem c_M_allOfY (l : Launch) (E : zE) {A : Nat → Nat} (hA : tmI A) {X Y : zSt} (h20 : Y 20 = X 20) (m n : Nat) (hm : m < 10) (hn : n < 6) : zM l E y_M_allOf b_M_allOf 5 (some .int) rm_M_allOf [.ref (A 44), .int (nI m), .int (nI n)] (tp E A Y) (zPi (tAll X m n) (tp E A Y)) := by
  have h := c_M_allOf l E hA Y m n hm hn
  unfold tAll at h ⊢
  rw [h20] at h
  exact h
theorem c_M_hasFieldY (l : Launch) (E : zE) {A : Nat → Nat} (hA : tmI A) {X Y : zSt} (hY : tsm THN X Y) (hX : tInv X) (o f : Nat) (ho : o < cn X 16) (hf0 : f < cn X 2) : zM l E y_M_hasField b_M_hasField 3 (some .boolean) rm_M_hasField [.ref (A 44), .int (nI o), .int (nI f)] (tp E A Y) (zPi (bI (und X 9 (X 17 o) (X 3 f))) (tp E A Y)) := by
  have h := c_M_hasField l E hA Y (tInv_tsm hY THN_19 hX) o f (by rw [cn_tsm hY (by decide)]; exact ho) (by rw [cn_tsm hY (by decide)]; exact hf0)
  rw [und_c (hY 1 (by decide)), hY 17 (by decide), hY 3 (by decide)] at h
  exact h
theorem c_M_isUnderY (l : Launch) (E : zE) {A : Nat → Nat} (hA : tmI A) {X Y : zSt} (hY : tsm THN X Y) (hX : tInv X) (c a : Int32) (hc : c = -1 ∨ ∃ j, j < cn X 0 ∧ c = nI j) : zM l E y_M_isUnder b_M_isUnder 4 (some .boolean) rm_M_isUnder [.ref (A 44), .int c, .int a] (tp E A Y) (zPi (bI (und X 9 c a)) (tp E A Y)) := by
  have h := c_M_isUnder l E hA Y (tInv_tsm hY THN_19 hX) c a (by rw [cn_tsm hY (by decide)]; exact hc)
  rw [und_c (hY 1 (by decide))] at h
  exact h
theorem c_M_foundY (l : Launch) (E : zE) {A : Nat → Nat} (hA : tmI A) {X Y : zSt} (hY : tsm THN X Y) (hX : tInv X) (c g : Int32) (hc : c = -1 ∨ ∃ j, j < cn X 0 ∧ c = nI j) : zM l E y_M_found b_M_found 5 (some .int) rm_M_found [.ref (A 44), .int c, .int g] (tp E A Y) (zPi (fdf X g 9 c) (tp E A Y)) := by
  have h := c_M_found l E hA Y (tInv_tsm hY THN_19 hX) c g (by rw [cn_tsm hY (by decide)]; exact hc)
  rw [fdf_c (hY 1 (by decide)) (hY 4 (by decide)) (hY 5 (by decide)) (hY 6 (by decide))] at h
  exact h
abbrev rm_M_note : Room := { frames := 2, cells := 0, slots := 0, locals := 46 }
set_option maxHeartbeats 4000000 in
set_option maxRecDepth 100000 in
theorem c_M_note (l : Launch) (E : zE) {A : Nat → Nat} (hA : tmI A) (X : zSt) (hX : tInv X) (r : Int32) : zM l E y_M_note b_M_note 7 (none) rm_M_note [.ref (A 44), .int r] (tp E A X) (zPv (tp E A (tNote X r))) := by
  refine zM_w (by decide +kernel) rfl rfl (fun sz => ?_)
  obtain ⟨⟨⟨h0, b0⟩, ⟨h2, b2⟩, ⟨h4, b4⟩, ⟨h7, b7⟩, ⟨h16, b16⟩⟩, h18, h19, hp, hf, hs, hst⟩ := id hX
  refine z_iconst d_M_note_0 ic_0 ?_
  refine z_istore_n d_M_note_1 (zlt rfl) ?_
  have hTm := zit_inv (f := fun m Y => tN3 X r m Y) (I := fun _ Y => tsm [30] X Y) (N := cn X 4) (x0 := X) (tsm_rf) (fun k Y _ h => tsm_tr h tN3_tsm)
  refine zlp (Gh := fun (kz : Nat) (Z : zSt) => zG (zcx l E b_M_note "PointsToRoundsModel" 7 (none) false rm_M_note (tp E A X) sz (zPv (tp E A (tNote X r)))) 0 0 2 [some (.ref (A 44)), some (.int (r)), some (.int (nI (kz))), none, none, none, none] [] (tp E A Z)) (f := fun m Y => tN3 X r m Y) (N := cn X 4) (x0 := X) ?_ ?_
  rotate_left
  · intro m hm ihm
    have hYm := hTm m (by omega)
    generalize zit _ m _ = Ym at ihm hYm ⊢
    show zG (zcx l E b_M_note "PointsToRoundsModel" 7 (none) false rm_M_note (tp E A X) sz (zPv (tp E A (tNote X r)))) 0 0 2 [some (.ref (A 44)), some (.int (r)), some (.int (nI (m))), none, none, none, none] [] (tp E A Ym)
    try dsimp only at ihm
    refine z_iload_n d_M_note_2 rfl ?_
    refine z_aload_n d_M_note_3 rfl ?_
    refine z_get fa_M_116 d_M_note_4 (tp_o hA) rfl ?_
    refine z_top ((congrFun (hYm 4 (by decide)) 0).trans h4) ?_
    refine z_icmp_ge (tgt := 99) d_M_note_7 (by decide) (fun c7 => absurd c7 (nI_ge hm (by omega))) (fun c7 => ?_)
    have c7n := (not_congr (nI_leI (by omega) (by omega))).mp c7
    refine z_iconst d_M_note_10 ic_0 ?_
    refine z_istore_n d_M_note_11 (zlt rfl) ?_
    have hTn := zit_inv (f := fun n Y => tN2 X r m n Y) (I := fun _ Y => tsm [30] X Y) (N := 6) (x0 := Ym) (hYm) (fun k Y _ h => tsm_tr h tN2_tsm)
    refine zlp (Gh := fun (kz : Nat) (Z : zSt) => zG (zcx l E b_M_note "PointsToRoundsModel" 7 (none) false rm_M_note (tp E A X) sz (zPv (tp E A (tNote X r)))) 0 0 12 [some (.ref (A 44)), some (.int (r)), some (.int (nI (m))), some (.int (nI (kz))), none, none, none] [] (tp E A Z)) (f := fun n Y => tN2 X r m n Y) (N := 6) (x0 := Ym) ?_ ?_
    rotate_left
    · intro n hn ihn
      have hYn := hTn n (by omega)
      generalize zit _ n _ = Yn at ihn hYn ⊢
      show zG (zcx l E b_M_note "PointsToRoundsModel" 7 (none) false rm_M_note (tp E A X) sz (zPv (tp E A (tNote X r)))) 0 0 12 [some (.ref (A 44)), some (.int (r)), some (.int (nI (m))), some (.int (nI (n))), none, none, none] [] (tp E A Yn)
      try dsimp only at ihn
      refine z_iload_n d_M_note_12 rfl ?_
      refine z_bipush d_M_note_13 bp_6 ?_
      refine z_icmp_ge (tgt := 93) d_M_note_15 (by decide) (fun c15 => absurd c15 (nI_ge hn (by omega))) (fun c15 => ?_)
      have c15n := (not_congr (nI_leI (by omega) (by omega))).mp c15
      refine z_aload_n d_M_note_18 rfl ?_
      refine z_iload_n d_M_note_19 rfl ?_
      refine z_iload_n d_M_note_20 rfl ?_
      refine z_cVi (c_M_allOfY l E hA (X := X) (hYn 20 (by decide)) m n (by omega) (by omega)) cb_M_allOf ci_M_allOf ln_M_183 (tp_o hA) rfl rfl (zlq rfl) rfl (zlq rfl) (zlq rfl) d_M_note_21 ?_
      refine z_istore d_M_note_24 (zlt rfl) ?_
      refine z_iconst d_M_note_26 ic_0 ?_
      refine z_istore d_M_note_27 (zlt rfl) ?_
      have hTo := zit_inv (f := fun o Y => tN1 X r m n o Y) (I := fun _ Y => tsm [30] X Y) (N := cn X 16) (x0 := Yn) (hYn) (fun k Y _ h => tsm_tr h tN1_tsm)
      refine zlp (Gh := fun (kz : Nat) (Z : zSt) => zG (zcx l E b_M_note "PointsToRoundsModel" 7 (none) false rm_M_note (tp E A X) sz (zPv (tp E A (tNote X r)))) 0 0 29 [some (.ref (A 44)), some (.int (r)), some (.int (nI (m))), some (.int (nI (n))), some (.int (tAll X m n)), some (.int (nI (kz))), none] [] (tp E A Z)) (f := fun o Y => tN1 X r m n o Y) (N := cn X 16) (x0 := Yn) ?_ ?_
      rotate_left
      · intro o ho iho
        have hYo := hTo o (by omega)
        generalize zit _ o _ = Yo at iho hYo ⊢
        show zG (zcx l E b_M_note "PointsToRoundsModel" 7 (none) false rm_M_note (tp E A X) sz (zPv (tp E A (tNote X r)))) 0 0 29 [some (.ref (A 44)), some (.int (r)), some (.int (nI (m))), some (.int (nI (n))), some (.int (tAll X m n)), some (.int (nI (o))), none] [] (tp E A Yo)
        try dsimp only at iho
        refine z_iload d_M_note_29 rfl ?_
        refine z_aload_n d_M_note_31 rfl ?_
        refine z_get fa_M_160 d_M_note_32 (tp_o hA) rfl ?_
        refine z_top ((congrFun (hYo 16 (by decide)) 0).trans h16) ?_
        refine z_icmp_ge (tgt := 87) d_M_note_35 (by decide) (fun c35 => absurd c35 (nI_ge ho (by omega))) (fun c35 => ?_)
        have c35n := (not_congr (nI_leI (by omega) (by omega))).mp c35
        refine z_bipush d_M_note_38 bp_120 ?_
        refine z_iload_n d_M_note_40 rfl ?_
        refine z_imul d_M_note_41 ?_
        refine z_top (pk_mul (120) (m)) ?_
        refine z_bipush d_M_note_42 bp_20 ?_
        refine z_iload_n d_M_note_44 rfl ?_
        refine z_imul d_M_note_45 ?_
        refine z_top (pk_mul (20) (n)) ?_
        refine z_iadd d_M_note_46 ?_
        refine z_top (nI_add (120 * m) (20 * n)) ?_
        refine z_iload d_M_note_47 rfl ?_
        refine z_iadd d_M_note_49 ?_
        refine z_top (nI_add (120 * m + (20 * n)) (o)) ?_
        refine z_istore d_M_note_50 (zlt rfl) ?_
        refine z_iload d_M_note_52 rfl ?_
        refine z_iload d_M_note_54 rfl ?_
        refine z_ishr d_M_note_56 ?_
        refine z_iconst d_M_note_57 ic_1 ?_
        refine z_iand d_M_note_58 ?_
        refine z_iconst d_M_note_59 ic_1 ?_
        refine z_icmp_ne (tgt := 81) d_M_note_60 (by decide) (fun c60 => ?_) (fun c60 => ?_)
        · refine z_iinc (v := nI (o + 1)) d_M_note_81 (zlt rfl) rfl (zinc _) ?_
          refine z_goto (tgt := 29) d_M_note_84 (by decide) ?_
          refine z_fl 6 ?_
          unfold tN1 at iho
          rw [if_neg (zbf (show tb (tAll X m n) o = false from decide_eq_false c60))] at iho
          exact iho
        · refine z_aload_n d_M_note_63 rfl ?_
          refine z_get fa_M_79 d_M_note_64 (tp_o hA) rfl ?_
          refine z_iload d_M_note_67 rfl ?_
          refine z_iald (120 * m + (20 * n) + o) d_M_note_69 (tp_a hA 30 rfl) rfl (show 120 * m + (20 * n) + o < 1200 from by omega) (by decide) ?_
          refine z_if_ge (tgt := 81) d_M_note_70 (by decide) (fun c70 => ?_) (fun c70 => ?_)
          · refine z_iinc (v := nI (o + 1)) d_M_note_81 (zlt rfl) rfl (zinc _) ?_
            refine z_goto (tgt := 29) d_M_note_84 (by decide) ?_
            refine z_fl 6 ?_
            unfold tN1 at iho
            rw [if_pos (show tb (tAll X m n) o = true from decide_eq_true c60), if_pos c70] at iho
            exact iho
          · refine z_aload_n d_M_note_73 rfl ?_
            refine z_get fa_M_79 d_M_note_74 (tp_o hA) rfl ?_
            refine z_iload d_M_note_77 rfl ?_
            refine z_iload_n d_M_note_79 rfl ?_
            refine t_ast (kf := 30) (j := 120 * m + (20 * n) + o) d_M_note_80 hA rfl rfl (show 120 * m + (20 * n) + o < 1200 from by omega) (by decide) ?_
            refine z_iinc (v := nI (o + 1)) d_M_note_81 (zlt rfl) rfl (zinc _) ?_
            refine z_goto (tgt := 29) d_M_note_84 (by decide) ?_
            refine z_fl 6 ?_
            unfold tN1 at iho
            rw [if_pos (show tb (tAll X m n) o = true from decide_eq_true c60), if_neg c70] at iho
            exact iho
      show zG (zcx l E b_M_note "PointsToRoundsModel" 7 (none) false rm_M_note (tp E A X) sz (zPv (tp E A (tNote X r)))) 0 0 29 [some (.ref (A 44)), some (.int (r)), some (.int (nI (m))), some (.int (nI (n))), some (.int (tAll X m n)), some (.int (nI (cn X 16))), none] [] (tp E A (zit (fun o Y => tN1 X r m n o Y) (cn X 16) Yn))
      have hEo := hTo _ (Nat.le_refl _)
      refine z_iload d_M_note_29 rfl ?_
      refine z_aload_n d_M_note_31 rfl ?_
      refine z_get fa_M_160 d_M_note_32 (tp_o hA) rfl ?_
      refine z_top ((congrFun (hEo 16 (by decide)) 0).trans h16) ?_
      refine z_icmp_ge (tgt := 87) d_M_note_35 (by decide) (fun c35 => ?_) (fun c35 => absurd (nI_le (Nat.le_refl _) (by omega)) c35)
      have c35n := (nI_leI (by omega) (by omega)).mp c35
      refine z_iinc (v := nI (n + 1)) d_M_note_87 (zlt rfl) rfl (zinc _) ?_
      refine z_goto (tgt := 12) d_M_note_90 (by decide) ?_
      refine z_fl 4 ?_
      refine z_fl 5 ?_
      exact ihn
    show zG (zcx l E b_M_note "PointsToRoundsModel" 7 (none) false rm_M_note (tp E A X) sz (zPv (tp E A (tNote X r)))) 0 0 12 [some (.ref (A 44)), some (.int (r)), some (.int (nI (m))), some (.int (nI 6)), none, none, none] [] (tp E A (zit (fun n Y => tN2 X r m n Y) (6) Ym))
    have hEn := hTn _ (Nat.le_refl _)
    refine z_iload_n d_M_note_12 rfl ?_
    refine z_bipush d_M_note_13 bp_6 ?_
    refine z_icmp_ge (tgt := 93) d_M_note_15 (by decide) (fun c15 => ?_) (fun c15 => absurd (by decide +kernel) c15)
    refine z_iinc (v := nI (m + 1)) d_M_note_93 (zlt rfl) rfl (zinc _) ?_
    refine z_goto (tgt := 2) d_M_note_96 (by decide) ?_
    refine z_fl 3 ?_
    exact ihm
  show zG (zcx l E b_M_note "PointsToRoundsModel" 7 (none) false rm_M_note (tp E A X) sz (zPv (tp E A (tNote X r)))) 0 0 2 [some (.ref (A 44)), some (.int (r)), some (.int (nI (cn X 4))), none, none, none, none] [] (tp E A (zit (fun m Y => tN3 X r m Y) (cn X 4) X))
  have hEm := hTm _ (Nat.le_refl _)
  refine z_iload_n d_M_note_2 rfl ?_
  refine z_aload_n d_M_note_3 rfl ?_
  refine z_get fa_M_116 d_M_note_4 (tp_o hA) rfl ?_
  refine z_top ((congrFun (hEm 4 (by decide)) 0).trans h4) ?_
  refine z_icmp_ge (tgt := 99) d_M_note_7 (by decide) (fun c7 => ?_) (fun c7 => absurd (nI_le (Nat.le_refl _) (by omega)) c7)
  have c7n := (nI_leI (by omega) (by omega)).mp c7
  exact z_vret rfl d_M_note_99 (zlq rfl) (zlq rfl) (⟨rfl, rfl⟩)
abbrev rm_M_bringEach : Room := { frames := 2, cells := 0, slots := 0, locals := 45 }
set_option maxHeartbeats 4000000 in
set_option maxRecDepth 100000 in
theorem c_M_bringEach (l : Launch) (E : zE) {A : Nat → Nat} (hA : tmI A) {X : zSt} (hX : tInv X) {Y : zSt} (hY : tsm THN X Y) (i : Nat) (hi : i < cn X 7) (hk : ne X 9 i = 2 ∨ ne X 9 i = 3 ∨ ne X 9 i = 4 ∨ ne X 9 i = 8 ∨ ne X 9 i = 9) (p q : Int32) (to : Nat) (hto : to < 1260) : zM l E y_M_bringEach b_M_bringEach 8 (none) rm_M_bringEach [.ref (A 44), .int (nI i), .int p, .int q, .int (nI to)] (tp E A Y) (zPv (tp E A (zit (tEach X i p q to) (cn X 16) Y))) := by
  refine zM_w (by decide +kernel) rfl rfl (fun sz => ?_)
  obtain ⟨⟨⟨h0, b0⟩, ⟨h2, b2⟩, ⟨h4, b4⟩, ⟨h7, b7⟩, ⟨h16, b16⟩⟩, h18, h19, hp, hf, hs, hst⟩ := id hX
  obtain ⟨⟨s8, l8⟩, ⟨s9, l9⟩, ⟨s10, l10, l10a⟩, ⟨s11, l11, l11a, l11b⟩, s12, s13, s15⟩ := hst i hi
  refine z_iconst d_M_bringEach_0 ic_0 ?_
  refine z_istore d_M_bringEach_1 (zlt rfl) ?_
  have hTo := zit_inv (f := fun o Y => tEach X i p q to o Y) (I := fun _ Y => tsm THN X Y) (N := cn X 16) (x0 := Y) (hY) (fun k Y _ h => tsm_tr h tEach_tsm)
  refine zlp (Gh := fun (kz : Nat) (Z : zSt) => zG (zcx l E b_M_bringEach "PointsToRoundsModel" 8 (none) false rm_M_bringEach (tp E A Y) sz (zPv (tp E A (zit (tEach X i p q to) (cn X 16) Y)))) 0 0 3 [some (.ref (A 44)), some (.int (nI (i))), some (.int (p)), some (.int (q)), some (.int (nI (to))), some (.int (nI (kz))), none, none] [] (tp E A Z)) (f := fun o Y => tEach X i p q to o Y) (N := cn X 16) (x0 := Y) ?_ ?_
  rotate_left
  · intro o ho iho
    have hYo := hTo o (by omega)
    generalize zit _ o _ = Yo at iho hYo ⊢
    show zG (zcx l E b_M_bringEach "PointsToRoundsModel" 8 (none) false rm_M_bringEach (tp E A Y) sz (zPv (tp E A (zit (tEach X i p q to) (cn X 16) Y)))) 0 0 3 [some (.ref (A 44)), some (.int (nI (i))), some (.int (p)), some (.int (q)), some (.int (nI (to))), some (.int (nI (o))), none, none] [] (tp E A Yo)
    try dsimp only at iho
    refine z_iload d_M_bringEach_3 rfl ?_
    refine z_aload_n d_M_bringEach_5 rfl ?_
    refine z_get fa_M_160 d_M_bringEach_6 (tp_o hA) rfl ?_
    refine z_top ((congrFun (hYo 16 (by decide)) 0).trans h16) ?_
    refine z_icmp_ge (tgt := 299) d_M_bringEach_9 (by decide) (fun c9 => absurd c9 (nI_ge ho (by omega))) (fun c9 => ?_)
    have c9n := (not_congr (nI_leI (by omega) (by omega))).mp c9
    refine z_iload_n d_M_bringEach_12 rfl ?_
    refine z_iload d_M_bringEach_13 rfl ?_
    refine z_ishr d_M_bringEach_15 ?_
    refine z_iconst d_M_bringEach_16 ic_1 ?_
    refine z_iand d_M_bringEach_17 ?_
    refine z_iconst d_M_bringEach_18 ic_1 ?_
    suffices J19 : zG (zcx l E b_M_bringEach "PointsToRoundsModel" 8 (none) false rm_M_bringEach (tp E A Y) sz (zPv (tp E A (zit (tEach X i p q to) (cn X 16) Y)))) 0 0 27 [some (.ref (A 44)), some (.int (nI (i))), some (.int (p)), some (.int (q)), some (.int (nI (to))), some (.int (nI (o))), none, none] [.int (bI (tb p o))] (tp E A Yo) by
      refine z_icmp_ne (tgt := 26) d_M_bringEach_19 (by decide) (fun c19 => ?_) (fun c19 => ?_)
      · refine z_iconst d_M_bringEach_26 ic_0 ?_
        exact z_top (x := nI 0) (y := bI (tb p o)) (by rw [show tb p o = false from decide_eq_false c19]; rfl) J19
      · refine z_iconst d_M_bringEach_22 ic_1 ?_
        refine z_goto (tgt := 27) d_M_bringEach_23 (by decide) ?_
        exact z_top (x := nI 1) (y := bI (tb p o)) (by rw [show tb p o = true from decide_eq_true c19]; rfl) J19
    refine z_istore d_M_bringEach_27 (zlt rfl) ?_
    refine z_iload_n d_M_bringEach_29 rfl ?_
    refine z_iload d_M_bringEach_30 rfl ?_
    refine z_ishr d_M_bringEach_32 ?_
    refine z_iconst d_M_bringEach_33 ic_1 ?_
    refine z_iand d_M_bringEach_34 ?_
    refine z_iconst d_M_bringEach_35 ic_1 ?_
    suffices J36 : zG (zcx l E b_M_bringEach "PointsToRoundsModel" 8 (none) false rm_M_bringEach (tp E A Y) sz (zPv (tp E A (zit (tEach X i p q to) (cn X 16) Y)))) 0 0 44 [some (.ref (A 44)), some (.int (nI (i))), some (.int (p)), some (.int (q)), some (.int (nI (to))), some (.int (nI (o))), some (.int (bI (tb p o))), none] [.int (bI (tb q o))] (tp E A Yo) by
      refine z_icmp_ne (tgt := 43) d_M_bringEach_36 (by decide) (fun c36 => ?_) (fun c36 => ?_)
      · refine z_iconst d_M_bringEach_43 ic_0 ?_
        exact z_top (x := nI 0) (y := bI (tb q o)) (by rw [show tb q o = false from decide_eq_false c36]; rfl) J36
      · refine z_iconst d_M_bringEach_39 ic_1 ?_
        refine z_goto (tgt := 44) d_M_bringEach_40 (by decide) ?_
        exact z_top (x := nI 1) (y := bI (tb q o)) (by rw [show tb q o = true from decide_eq_true c36]; rfl) J36
    refine z_istore d_M_bringEach_44 (zlt rfl) ?_
    rcases hk with e | e | e | e | e
    · have r12 := s12 (by omega)
      have r12b := r12.2
      refine z_aload_n d_M_bringEach_46 rfl ?_
      refine z_get fa_M_25 d_M_bringEach_47 (tp_o hA) rfl ?_
      refine z_iload_n d_M_bringEach_50 rfl ?_
      refine z_iald (i) d_M_bringEach_51 (tp_a hA 9 rfl) rfl (show i < 60 from by omega) (by decide) ?_
      refine z_top ((congrFun (hYo 9 (by decide)) (i)).trans (s9.trans (by rw [e]))) ?_
      refine z_tabIn (tgt := 96) d_M_bringEach_52 (by decide +kernel) (by decide +kernel) (show _ = some 44 by decide +kernel) (by decide) ?_
      refine z_aload_n d_M_bringEach_96 rfl ?_
      refine z_get fa_M_52 d_M_bringEach_97 (tp_o hA) rfl ?_
      refine z_iload d_M_bringEach_100 rfl ?_
      refine z_dup2 d_M_bringEach_102 rfl rfl ?_
      refine z_iald (to) d_M_bringEach_103 (tp_a hA 21 rfl) rfl (show to < 1260 from by omega) (by decide) ?_
      refine z_iload d_M_bringEach_104 rfl ?_
      refine z_if_eq (tgt := 144) d_M_bringEach_106 (by decide) (fun c106 => ?_) (fun c106 => ?_)
      · have c106n := bI_e.mp c106
        refine z_iconst d_M_bringEach_144 ic_0 ?_
        refine z_ior d_M_bringEach_145 ?_
        refine t_ast (kf := 21) (j := to) d_M_bringEach_146 hA rfl rfl (show to < 1260 from by omega) (by decide) ?_
        refine z_goto (tgt := 293) d_M_bringEach_147 (by decide) ?_
        refine z_iinc (v := nI (o + 1)) d_M_bringEach_293 (zlt rfl) rfl (zinc _) ?_
        refine z_goto (tgt := 3) d_M_bringEach_296 (by decide) ?_
        refine z_fl 6 ?_
        refine z_fl 7 ?_
        have e2 : tEach X i p q to o Yo = (va_up Yo 21 (upd (Yo 21) (to) ((Yo 21 (to) ||| nI 0)))) := by
          rw [tEach_2 e, if_neg (zbf c106n)]
          try rfl
        rw [e2] at iho
        exact iho
      · have c106n := bI_n.mp c106
        refine z_aload_n d_M_bringEach_109 rfl ?_
        refine z_iload d_M_bringEach_110 rfl ?_
        refine z_aload_n d_M_bringEach_112 rfl ?_
        refine z_get fa_M_34 d_M_bringEach_113 (tp_o hA) rfl ?_
        refine z_iload_n d_M_bringEach_116 rfl ?_
        refine z_iald (i) d_M_bringEach_117 (tp_a hA 12 rfl) rfl (show i < 60 from by omega) (by decide) ?_
        refine z_top ((congrFun (hYo 12 (by decide)) (i)).trans r12.1) ?_
        refine z_cVi (c_M_hasFieldY l E hA hYo hX (o) (ne X 12 i) (by omega) (by omega)) cb_M_hasField ci_M_hasField ln_M_177 (tp_o hA) rfl rfl (zlq rfl) rfl (zlq rfl) (zlq rfl) d_M_bringEach_118 ?_
        refine z_if_eq (tgt := 144) d_M_bringEach_121 (by decide) (fun c121 => ?_) (fun c121 => ?_)
        · have c121n := bI_e.mp c121
          refine z_iconst d_M_bringEach_144 ic_0 ?_
          refine z_ior d_M_bringEach_145 ?_
          refine t_ast (kf := 21) (j := to) d_M_bringEach_146 hA rfl rfl (show to < 1260 from by omega) (by decide) ?_
          refine z_goto (tgt := 293) d_M_bringEach_147 (by decide) ?_
          refine z_iinc (v := nI (o + 1)) d_M_bringEach_293 (zlt rfl) rfl (zinc _) ?_
          refine z_goto (tgt := 3) d_M_bringEach_296 (by decide) ?_
          refine z_fl 6 ?_
          refine z_fl 7 ?_
          have e2 : tEach X i p q to o Yo = (va_up Yo 21 (upd (Yo 21) (to) ((Yo 21 (to) ||| nI 0)))) := by
            rw [tEach_2 e, if_pos c106n, if_neg (zbf c121n)]
            try rfl
          rw [e2] at iho
          exact iho
        · have c121n := bI_n.mp c121
          refine z_aload_n d_M_bringEach_124 rfl ?_
          refine z_get fa_M_55 d_M_bringEach_125 (tp_o hA) rfl ?_
          refine z_bipush d_M_bringEach_128 bp_8 ?_
          refine z_iload d_M_bringEach_130 rfl ?_
          refine z_imul d_M_bringEach_132 ?_
          refine z_top (pk_mul (8) (o)) ?_
          refine z_aload_n d_M_bringEach_133 rfl ?_
          refine z_get fa_M_34 d_M_bringEach_134 (tp_o hA) rfl ?_
          refine z_iload_n d_M_bringEach_137 rfl ?_
          refine z_iald (i) d_M_bringEach_138 (tp_a hA 12 rfl) rfl (show i < 60 from by omega) (by decide) ?_
          refine z_top ((congrFun (hYo 12 (by decide)) (i)).trans r12.1) ?_
          refine z_iadd d_M_bringEach_139 ?_
          refine z_top (nI_add (8 * o) (ne X 12 i)) ?_
          refine z_iald (8 * o + (ne X 12 i)) d_M_bringEach_140 (tp_a hA 22 rfl) rfl (show 8 * o + (ne X 12 i) < 160 from by omega) (by decide) ?_
          refine z_top (congrFun (hYo 22 (by decide)) (8 * o + (ne X 12 i))) ?_
          refine z_goto (tgt := 145) d_M_bringEach_141 (by decide) ?_
          refine z_ior d_M_bringEach_145 ?_
          refine t_ast (kf := 21) (j := to) d_M_bringEach_146 hA rfl rfl (show to < 1260 from by omega) (by decide) ?_
          refine z_goto (tgt := 293) d_M_bringEach_147 (by decide) ?_
          refine z_iinc (v := nI (o + 1)) d_M_bringEach_293 (zlt rfl) rfl (zinc _) ?_
          refine z_goto (tgt := 3) d_M_bringEach_296 (by decide) ?_
          refine z_fl 6 ?_
          refine z_fl 7 ?_
          have e2 : tEach X i p q to o Yo = (va_up Yo 21 (upd (Yo 21) (to) ((Yo 21 (to) ||| X 22 (8 * o + (ne X 12 i)))))) := by
            rw [tEach_2 e, if_pos c106n, if_pos c121n]
            try rfl
          rw [e2] at iho
          exact iho
    · have r12 := s12 (by omega)
      have r12b := r12.2
      refine z_aload_n d_M_bringEach_46 rfl ?_
      refine z_get fa_M_25 d_M_bringEach_47 (tp_o hA) rfl ?_
      refine z_iload_n d_M_bringEach_50 rfl ?_
      refine z_iald (i) d_M_bringEach_51 (tp_a hA 9 rfl) rfl (show i < 60 from by omega) (by decide) ?_
      refine z_top ((congrFun (hYo 9 (by decide)) (i)).trans (s9.trans (by rw [e]))) ?_
      refine z_tabIn (tgt := 150) d_M_bringEach_52 (by decide +kernel) (by decide +kernel) (show _ = some 98 by decide +kernel) (by decide) ?_
      refine z_aload_n d_M_bringEach_150 rfl ?_
      refine z_get fa_M_58 d_M_bringEach_151 (tp_o hA) rfl ?_
      refine z_bipush d_M_bringEach_154 bp_8 ?_
      refine z_iload d_M_bringEach_156 rfl ?_
      refine z_imul d_M_bringEach_158 ?_
      refine z_top (pk_mul (8) (o)) ?_
      refine z_aload_n d_M_bringEach_159 rfl ?_
      refine z_get fa_M_34 d_M_bringEach_160 (tp_o hA) rfl ?_
      refine z_iload_n d_M_bringEach_163 rfl ?_
      refine z_iald (i) d_M_bringEach_164 (tp_a hA 12 rfl) rfl (show i < 60 from by omega) (by decide) ?_
      refine z_top ((congrFun (hYo 12 (by decide)) (i)).trans r12.1) ?_
      refine z_iadd d_M_bringEach_165 ?_
      refine z_top (nI_add (8 * o) (ne X 12 i)) ?_
      refine z_dup2 d_M_bringEach_166 rfl rfl ?_
      refine z_iald (8 * o + (ne X 12 i)) d_M_bringEach_167 (tp_a hA 23 rfl) rfl (show 8 * o + (ne X 12 i) < 160 from by omega) (by decide) ?_
      refine z_iload d_M_bringEach_168 rfl ?_
      refine z_if_eq (tgt := 192) d_M_bringEach_170 (by decide) (fun c170 => ?_) (fun c170 => ?_)
      · have c170n := bI_e.mp c170
        refine z_iconst d_M_bringEach_192 ic_0 ?_
        refine z_ior d_M_bringEach_193 ?_
        refine t_ast (kf := 23) (j := 8 * o + (ne X 12 i)) d_M_bringEach_194 hA rfl rfl (show 8 * o + (ne X 12 i) < 160 from by omega) (by decide) ?_
        refine z_goto (tgt := 293) d_M_bringEach_195 (by decide) ?_
        refine z_iinc (v := nI (o + 1)) d_M_bringEach_293 (zlt rfl) rfl (zinc _) ?_
        refine z_goto (tgt := 3) d_M_bringEach_296 (by decide) ?_
        refine z_fl 6 ?_
        refine z_fl 7 ?_
        have e2 : tEach X i p q to o Yo = (va_up Yo 23 (upd (Yo 23) (8 * o + (ne X 12 i)) ((Yo 23 (8 * o + (ne X 12 i)) ||| nI 0)))) := by
          rw [tEach_3 e, if_neg (zbf c170n)]
          try rfl
        rw [e2] at iho
        exact iho
      · have c170n := bI_n.mp c170
        refine z_aload_n d_M_bringEach_173 rfl ?_
        refine z_iload d_M_bringEach_174 rfl ?_
        refine z_aload_n d_M_bringEach_176 rfl ?_
        refine z_get fa_M_34 d_M_bringEach_177 (tp_o hA) rfl ?_
        refine z_iload_n d_M_bringEach_180 rfl ?_
        refine z_iald (i) d_M_bringEach_181 (tp_a hA 12 rfl) rfl (show i < 60 from by omega) (by decide) ?_
        refine z_top ((congrFun (hYo 12 (by decide)) (i)).trans r12.1) ?_
        refine z_cVi (c_M_hasFieldY l E hA hYo hX (o) (ne X 12 i) (by omega) (by omega)) cb_M_hasField ci_M_hasField ln_M_177 (tp_o hA) rfl rfl (zlq rfl) rfl (zlq rfl) (zlq rfl) d_M_bringEach_182 ?_
        refine z_if_eq (tgt := 192) d_M_bringEach_185 (by decide) (fun c185 => ?_) (fun c185 => ?_)
        · have c185n := bI_e.mp c185
          refine z_iconst d_M_bringEach_192 ic_0 ?_
          refine z_ior d_M_bringEach_193 ?_
          refine t_ast (kf := 23) (j := 8 * o + (ne X 12 i)) d_M_bringEach_194 hA rfl rfl (show 8 * o + (ne X 12 i) < 160 from by omega) (by decide) ?_
          refine z_goto (tgt := 293) d_M_bringEach_195 (by decide) ?_
          refine z_iinc (v := nI (o + 1)) d_M_bringEach_293 (zlt rfl) rfl (zinc _) ?_
          refine z_goto (tgt := 3) d_M_bringEach_296 (by decide) ?_
          refine z_fl 6 ?_
          refine z_fl 7 ?_
          have e2 : tEach X i p q to o Yo = (va_up Yo 23 (upd (Yo 23) (8 * o + (ne X 12 i)) ((Yo 23 (8 * o + (ne X 12 i)) ||| nI 0)))) := by
            rw [tEach_3 e, if_pos c170n, if_neg (zbf c185n)]
            try rfl
          rw [e2] at iho
          exact iho
        · have c185n := bI_n.mp c185
          refine z_iload_n d_M_bringEach_188 rfl ?_
          refine z_goto (tgt := 193) d_M_bringEach_189 (by decide) ?_
          refine z_ior d_M_bringEach_193 ?_
          refine t_ast (kf := 23) (j := 8 * o + (ne X 12 i)) d_M_bringEach_194 hA rfl rfl (show 8 * o + (ne X 12 i) < 160 from by omega) (by decide) ?_
          refine z_goto (tgt := 293) d_M_bringEach_195 (by decide) ?_
          refine z_iinc (v := nI (o + 1)) d_M_bringEach_293 (zlt rfl) rfl (zinc _) ?_
          refine z_goto (tgt := 3) d_M_bringEach_296 (by decide) ?_
          refine z_fl 6 ?_
          refine z_fl 7 ?_
          have e2 : tEach X i p q to o Yo = (va_up Yo 23 (upd (Yo 23) (8 * o + (ne X 12 i)) ((Yo 23 (8 * o + (ne X 12 i)) ||| q)))) := by
            rw [tEach_3 e, if_pos c170n, if_pos c185n]
            try rfl
          rw [e2] at iho
          exact iho
    · refine z_aload_n d_M_bringEach_46 rfl ?_
      refine z_get fa_M_25 d_M_bringEach_47 (tp_o hA) rfl ?_
      refine z_iload_n d_M_bringEach_50 rfl ?_
      refine z_iald (i) d_M_bringEach_51 (tp_a hA 9 rfl) rfl (show i < 60 from by omega) (by decide) ?_
      refine z_top ((congrFun (hYo 9 (by decide)) (i)).trans (s9.trans (by rw [e]))) ?_
      refine z_tabIn (tgt := 198) d_M_bringEach_52 (by decide +kernel) (by decide +kernel) (show _ = some 146 by decide +kernel) (by decide) ?_
      refine z_aload_n d_M_bringEach_198 rfl ?_
      refine z_get fa_M_52 d_M_bringEach_199 (tp_o hA) rfl ?_
      refine z_iload d_M_bringEach_202 rfl ?_
      refine z_dup2 d_M_bringEach_204 rfl rfl ?_
      refine z_iald (to) d_M_bringEach_205 (tp_a hA 21 rfl) rfl (show to < 1260 from by omega) (by decide) ?_
      refine z_iload d_M_bringEach_206 rfl ?_
      refine z_if_eq (tgt := 238) d_M_bringEach_208 (by decide) (fun c208 => ?_) (fun c208 => ?_)
      · have c208n := bI_e.mp c208
        refine z_iconst d_M_bringEach_238 ic_0 ?_
        refine z_ior d_M_bringEach_239 ?_
        refine t_ast (kf := 21) (j := to) d_M_bringEach_240 hA rfl rfl (show to < 1260 from by omega) (by decide) ?_
        refine z_goto (tgt := 293) d_M_bringEach_241 (by decide) ?_
        refine z_iinc (v := nI (o + 1)) d_M_bringEach_293 (zlt rfl) rfl (zinc _) ?_
        refine z_goto (tgt := 3) d_M_bringEach_296 (by decide) ?_
        refine z_fl 6 ?_
        refine z_fl 7 ?_
        have e2 : tEach X i p q to o Yo = (va_up Yo 21 (upd (Yo 21) (to) ((Yo 21 (to) ||| nI 0)))) := by
          rw [tEach_4 e, if_neg (zbf c208n)]
          try rfl
        rw [e2] at iho
        exact iho
      · have c208n := bI_n.mp c208
        refine z_aload_n d_M_bringEach_211 rfl ?_
        refine z_aload_n d_M_bringEach_212 rfl ?_
        refine z_get fa_M_46 d_M_bringEach_213 (tp_o hA) rfl ?_
        refine z_iload d_M_bringEach_216 rfl ?_
        refine z_iald (o) d_M_bringEach_218 (tp_a hA 17 rfl) rfl (show o < 20 from by omega) (by decide) ?_
        refine z_top (congrFun (hYo 17 (by decide)) (o)) ?_
        refine z_aload_n d_M_bringEach_219 rfl ?_
        refine z_get fa_M_34 d_M_bringEach_220 (tp_o hA) rfl ?_
        refine z_iload_n d_M_bringEach_223 rfl ?_
        refine z_iald (i) d_M_bringEach_224 (tp_a hA 12 rfl) rfl (show i < 60 from by omega) (by decide) ?_
        refine z_top (congrFun (hYo 12 (by decide)) (i)) ?_
        refine z_cVi (c_M_isUnderY l E hA hYo hX (X 17 (o)) (X 12 (i)) (Or.inr (hs _ ho))) cb_M_isUnder ci_M_isUnder ln_M_119 (tp_o hA) rfl rfl (zlq rfl) rfl (zlq rfl) (zlq rfl) d_M_bringEach_225 ?_
        refine z_if_eq (tgt := 238) d_M_bringEach_228 (by decide) (fun c228 => ?_) (fun c228 => ?_)
        · have c228n := bI_e.mp c228
          refine z_iconst d_M_bringEach_238 ic_0 ?_
          refine z_ior d_M_bringEach_239 ?_
          refine t_ast (kf := 21) (j := to) d_M_bringEach_240 hA rfl rfl (show to < 1260 from by omega) (by decide) ?_
          refine z_goto (tgt := 293) d_M_bringEach_241 (by decide) ?_
          refine z_iinc (v := nI (o + 1)) d_M_bringEach_293 (zlt rfl) rfl (zinc _) ?_
          refine z_goto (tgt := 3) d_M_bringEach_296 (by decide) ?_
          refine z_fl 6 ?_
          refine z_fl 7 ?_
          have e2 : tEach X i p q to o Yo = (va_up Yo 21 (upd (Yo 21) (to) ((Yo 21 (to) ||| nI 0)))) := by
            rw [tEach_4 e, if_pos c208n, if_neg (zbf c228n)]
            try rfl
          rw [e2] at iho
          exact iho
        · have c228n := bI_n.mp c228
          refine z_iconst d_M_bringEach_231 ic_1 ?_
          refine z_iload d_M_bringEach_232 rfl ?_
          refine z_ishl d_M_bringEach_234 ?_
          refine z_goto (tgt := 239) d_M_bringEach_235 (by decide) ?_
          refine z_ior d_M_bringEach_239 ?_
          refine t_ast (kf := 21) (j := to) d_M_bringEach_240 hA rfl rfl (show to < 1260 from by omega) (by decide) ?_
          refine z_goto (tgt := 293) d_M_bringEach_241 (by decide) ?_
          refine z_iinc (v := nI (o + 1)) d_M_bringEach_293 (zlt rfl) rfl (zinc _) ?_
          refine z_goto (tgt := 3) d_M_bringEach_296 (by decide) ?_
          refine z_fl 6 ?_
          refine z_fl 7 ?_
          have e2 : tEach X i p q to o Yo = (va_up Yo 21 (upd (Yo 21) (to) ((Yo 21 (to) ||| (nI 1 <<< (nI (o) &&& 31)))))) := by
            rw [tEach_4 e, if_pos c208n, if_pos c228n]
            try rfl
          rw [e2] at iho
          exact iho
    · refine z_aload_n d_M_bringEach_46 rfl ?_
      refine z_get fa_M_25 d_M_bringEach_47 (tp_o hA) rfl ?_
      refine z_iload_n d_M_bringEach_50 rfl ?_
      refine z_iald (i) d_M_bringEach_51 (tp_a hA 9 rfl) rfl (show i < 60 from by omega) (by decide) ?_
      refine z_top ((congrFun (hYo 9 (by decide)) (i)).trans (s9.trans (by rw [e]))) ?_
      refine z_tabIn (tgt := 244) d_M_bringEach_52 (by decide +kernel) (by decide +kernel) (show _ = some 192 by decide +kernel) (by decide) ?_
      refine z_aload_n d_M_bringEach_244 rfl ?_
      refine z_get fa_M_52 d_M_bringEach_245 (tp_o hA) rfl ?_
      refine z_iload d_M_bringEach_248 rfl ?_
      refine z_dup2 d_M_bringEach_250 rfl rfl ?_
      refine z_iald (to) d_M_bringEach_251 (tp_a hA 21 rfl) rfl (show to < 1260 from by omega) (by decide) ?_
      refine z_iload d_M_bringEach_252 rfl ?_
      refine z_if_eq (tgt := 267) d_M_bringEach_254 (by decide) (fun c254 => ?_) (fun c254 => ?_)
      · have c254n := bI_e.mp c254
        refine z_iconst d_M_bringEach_267 ic_0 ?_
        refine z_ior d_M_bringEach_268 ?_
        refine t_ast (kf := 21) (j := to) d_M_bringEach_269 hA rfl rfl (show to < 1260 from by omega) (by decide) ?_
        refine z_goto (tgt := 293) d_M_bringEach_270 (by decide) ?_
        refine z_iinc (v := nI (o + 1)) d_M_bringEach_293 (zlt rfl) rfl (zinc _) ?_
        refine z_goto (tgt := 3) d_M_bringEach_296 (by decide) ?_
        refine z_fl 6 ?_
        refine z_fl 7 ?_
        have e2 : tEach X i p q to o Yo = (va_up Yo 21 (upd (Yo 21) (to) ((Yo 21 (to) ||| nI 0)))) := by
          rw [tEach_8 e, if_neg (zbf c254n)]
          try rfl
        rw [e2] at iho
        exact iho
      · have c254n := bI_n.mp c254
        refine z_aload_n d_M_bringEach_257 rfl ?_
        refine z_get fa_M_61 d_M_bringEach_258 (tp_o hA) rfl ?_
        refine z_iload d_M_bringEach_261 rfl ?_
        refine z_iald (o) d_M_bringEach_263 (tp_a hA 24 rfl) rfl (show o < 20 from by omega) (by decide) ?_
        refine z_top (congrFun (hYo 24 (by decide)) (o)) ?_
        refine z_goto (tgt := 268) d_M_bringEach_264 (by decide) ?_
        refine z_ior d_M_bringEach_268 ?_
        refine t_ast (kf := 21) (j := to) d_M_bringEach_269 hA rfl rfl (show to < 1260 from by omega) (by decide) ?_
        refine z_goto (tgt := 293) d_M_bringEach_270 (by decide) ?_
        refine z_iinc (v := nI (o + 1)) d_M_bringEach_293 (zlt rfl) rfl (zinc _) ?_
        refine z_goto (tgt := 3) d_M_bringEach_296 (by decide) ?_
        refine z_fl 6 ?_
        refine z_fl 7 ?_
        have e2 : tEach X i p q to o Yo = (va_up Yo 21 (upd (Yo 21) (to) ((Yo 21 (to) ||| X 24 (o))))) := by
          rw [tEach_8 e, if_pos c254n]
          try rfl
        rw [e2] at iho
        exact iho
    · refine z_aload_n d_M_bringEach_46 rfl ?_
      refine z_get fa_M_25 d_M_bringEach_47 (tp_o hA) rfl ?_
      refine z_iload_n d_M_bringEach_50 rfl ?_
      refine z_iald (i) d_M_bringEach_51 (tp_a hA 9 rfl) rfl (show i < 60 from by omega) (by decide) ?_
      refine z_top ((congrFun (hYo 9 (by decide)) (i)).trans (s9.trans (by rw [e]))) ?_
      refine z_tabOut (tgt := 273) d_M_bringEach_52 (by decide +kernel) (by decide) ?_
      refine z_aload_n d_M_bringEach_273 rfl ?_
      refine z_get fa_M_64 d_M_bringEach_274 (tp_o hA) rfl ?_
      refine z_iload d_M_bringEach_277 rfl ?_
      refine z_dup2 d_M_bringEach_279 rfl rfl ?_
      refine z_iald (o) d_M_bringEach_280 (tp_a hA 25 rfl) rfl (show o < 20 from by omega) (by decide) ?_
      refine z_iload d_M_bringEach_281 rfl ?_
      refine z_if_eq (tgt := 290) d_M_bringEach_283 (by decide) (fun c283 => ?_) (fun c283 => ?_)
      · have c283n := bI_e.mp c283
        refine z_iconst d_M_bringEach_290 ic_0 ?_
        refine z_ior d_M_bringEach_291 ?_
        refine t_ast (kf := 25) (j := o) d_M_bringEach_292 hA rfl rfl (show o < 20 from by omega) (by decide) ?_
        refine z_iinc (v := nI (o + 1)) d_M_bringEach_293 (zlt rfl) rfl (zinc _) ?_
        refine z_goto (tgt := 3) d_M_bringEach_296 (by decide) ?_
        refine z_fl 6 ?_
        refine z_fl 7 ?_
        have e2 : tEach X i p q to o Yo = (va_up Yo 25 (upd (Yo 25) (o) ((Yo 25 (o) ||| nI 0)))) := by
          rw [tEach_9 e, if_neg (zbf c283n)]
          try rfl
        rw [e2] at iho
        exact iho
      · have c283n := bI_n.mp c283
        refine z_iload_n d_M_bringEach_286 rfl ?_
        refine z_goto (tgt := 291) d_M_bringEach_287 (by decide) ?_
        refine z_ior d_M_bringEach_291 ?_
        refine t_ast (kf := 25) (j := o) d_M_bringEach_292 hA rfl rfl (show o < 20 from by omega) (by decide) ?_
        refine z_iinc (v := nI (o + 1)) d_M_bringEach_293 (zlt rfl) rfl (zinc _) ?_
        refine z_goto (tgt := 3) d_M_bringEach_296 (by decide) ?_
        refine z_fl 6 ?_
        refine z_fl 7 ?_
        have e2 : tEach X i p q to o Yo = (va_up Yo 25 (upd (Yo 25) (o) ((Yo 25 (o) ||| q)))) := by
          rw [tEach_9 e, if_pos c283n]
          try rfl
        rw [e2] at iho
        exact iho
  show zG (zcx l E b_M_bringEach "PointsToRoundsModel" 8 (none) false rm_M_bringEach (tp E A Y) sz (zPv (tp E A (zit (tEach X i p q to) (cn X 16) Y)))) 0 0 3 [some (.ref (A 44)), some (.int (nI (i))), some (.int (p)), some (.int (q)), some (.int (nI (to))), some (.int (nI (cn X 16))), none, none] [] (tp E A (zit (fun o Y => tEach X i p q to o Y) (cn X 16) Y))
  have hEo := hTo _ (Nat.le_refl _)
  refine z_iload d_M_bringEach_3 rfl ?_
  refine z_aload_n d_M_bringEach_5 rfl ?_
  refine z_get fa_M_160 d_M_bringEach_6 (tp_o hA) rfl ?_
  refine z_top ((congrFun (hEo 16 (by decide)) 0).trans h16) ?_
  refine z_icmp_ge (tgt := 299) d_M_bringEach_9 (by decide) (fun c9 => ?_) (fun c9 => absurd (nI_le (Nat.le_refl _) (by omega)) c9)
  have c9n := (nI_leI (by omega) (by omega)).mp c9
  exact z_vret rfl d_M_bringEach_299 (zlq rfl) (zlq rfl) (⟨rfl, rfl⟩)
abbrev rm_M_call : Room := { frames := 2, cells := 0, slots := 0, locals := 47 }
set_option maxHeartbeats 4000000 in
set_option maxRecDepth 100000 in
theorem c_M_call (l : Launch) (E : zE) {A : Nat → Nat} (hA : tmI A) {X : zSt} (hX : tInv X) {Y : zSt} (hY : tsm THN X Y) (i : Nat) (hi : i < cn X 7) (hk : ne X 9 i = 7) (c : Nat) (hc : c < 21) (q : Int32) (to : Nat) (hto : to < 1260) : zM l E y_M_call b_M_call 10 (none) rm_M_call [.ref (A 44), .int (nI i), .int (nI c), .int q, .int (nI to)] (tp E A Y) (zPv (tp E A (zit (tCa1 X i c q to) (cn X 16) Y))) := by
  refine zM_w (by decide +kernel) rfl rfl (fun sz => ?_)
  obtain ⟨⟨⟨h0, b0⟩, ⟨h2, b2⟩, ⟨h4, b4⟩, ⟨h7, b7⟩, ⟨h16, b16⟩⟩, h18, h19, hp, hf, hs, hst⟩ := id hX
  obtain ⟨⟨s8, l8⟩, ⟨s9, l9⟩, ⟨s10, l10, l10a⟩, ⟨s11, l11, l11a, l11b⟩, s12, s13, s15⟩ := hst i hi
  obtain ⟨⟨s13, l13⟩, s14, l14⟩ := s13 hk
  refine z_aload_n d_M_call_0 rfl ?_
  refine z_get fa_M_49 d_M_call_1 (tp_o hA) rfl ?_
  refine z_aload_n d_M_call_4 rfl ?_
  refine z_get fa_M_22 d_M_call_5 (tp_o hA) rfl ?_
  refine z_iload_n d_M_call_8 rfl ?_
  refine z_iald (i) d_M_call_9 (tp_a hA 8 rfl) rfl (show i < 60 from by omega) (by decide) ?_
  refine z_top ((congrFun (hY 8 (by decide)) (i)).trans s8) ?_
  refine z_iload_n d_M_call_10 rfl ?_
  refine z_aload_n d_M_call_11 rfl ?_
  refine z_get fa_M_37 d_M_call_12 (tp_o hA) rfl ?_
  refine z_iload_n d_M_call_15 rfl ?_
  refine z_iald (i) d_M_call_16 (tp_a hA 13 rfl) rfl (show i < 60 from by omega) (by decide) ?_
  refine z_top ((congrFun (hY 13 (by decide)) (i)).trans s13) ?_
  refine z_cSi (c_M_nameAt l E _ (ne X 8 i) (c) (ne X 13 i)) cb_M_nameAt cs_M_nameAt ln_M_166 rfl rfl (zlq rfl) rfl (zlq rfl) (zlq rfl) d_M_call_17 ?_
  refine z_iald (126 * (ne X 8 i) + 6 * (c) + ne X 13 i) d_M_call_20 (tp_a hA 20 rfl) rfl (show 126 * (ne X 8 i) + 6 * (c) + ne X 13 i < 1260 from by omega) (by decide) ?_
  refine z_top (congrFun (hY 20 (by decide)) (126 * (ne X 8 i) + 6 * (c) + ne X 13 i)) ?_
  refine z_istore d_M_call_21 (zlt rfl) ?_
  refine z_aload_n d_M_call_23 rfl ?_
  refine z_get fa_M_49 d_M_call_24 (tp_o hA) rfl ?_
  refine z_aload_n d_M_call_27 rfl ?_
  refine z_get fa_M_22 d_M_call_28 (tp_o hA) rfl ?_
  refine z_iload_n d_M_call_31 rfl ?_
  refine z_iald (i) d_M_call_32 (tp_a hA 8 rfl) rfl (show i < 60 from by omega) (by decide) ?_
  refine z_top ((congrFun (hY 8 (by decide)) (i)).trans s8) ?_
  refine z_iload_n d_M_call_33 rfl ?_
  refine z_aload_n d_M_call_34 rfl ?_
  refine z_get fa_M_40 d_M_call_35 (tp_o hA) rfl ?_
  refine z_iload_n d_M_call_38 rfl ?_
  refine z_iald (i) d_M_call_39 (tp_a hA 14 rfl) rfl (show i < 60 from by omega) (by decide) ?_
  refine z_top ((congrFun (hY 14 (by decide)) (i)).trans s14) ?_
  refine z_cSi (c_M_nameAt l E _ (ne X 8 i) (c) (ne X 14 i)) cb_M_nameAt cs_M_nameAt ln_M_166 rfl rfl (zlq rfl) rfl (zlq rfl) (zlq rfl) d_M_call_40 ?_
  refine z_iald (126 * (ne X 8 i) + 6 * (c) + ne X 14 i) d_M_call_43 (tp_a hA 20 rfl) rfl (show 126 * (ne X 8 i) + 6 * (c) + ne X 14 i < 1260 from by omega) (by decide) ?_
  refine z_top (congrFun (hY 20 (by decide)) (126 * (ne X 8 i) + 6 * (c) + ne X 14 i)) ?_
  refine z_istore d_M_call_44 (zlt rfl) ?_
  refine z_iconst d_M_call_46 ic_0 ?_
  refine z_istore d_M_call_47 (zlt rfl) ?_
  have hTo := zit_inv (f := fun o Y => tCa1 X i c q to o Y) (I := fun _ Y => tsm THN X Y) (N := cn X 16) (x0 := Y) (hY) (fun k Y _ h => tsm_tr h tCa1_tsm)
  refine zlp (Gh := fun (kz : Nat) (Z : zSt) => zG (zcx l E b_M_call "PointsToRoundsModel" 10 (none) false rm_M_call (tp E A Y) sz (zPv (tp E A (zit (tCa1 X i c q to) (cn X 16) Y)))) 0 0 49 [some (.ref (A 44)), some (.int (nI (i))), some (.int (nI (c))), some (.int (q)), some (.int (nI (to))), some (.int (X 20 (126 * (ne X 8 i) + 6 * (c) + ne X 13 i))), some (.int (X 20 (126 * (ne X 8 i) + 6 * (c) + ne X 14 i))), some (.int (nI (kz))), none, none] [] (tp E A Z)) (f := fun o Y => tCa1 X i c q to o Y) (N := cn X 16) (x0 := Y) ?_ ?_
  rotate_left
  · intro o ho iho
    have hYo := hTo o (by omega)
    generalize zit _ o _ = Yo at iho hYo ⊢
    show zG (zcx l E b_M_call "PointsToRoundsModel" 10 (none) false rm_M_call (tp E A Y) sz (zPv (tp E A (zit (tCa1 X i c q to) (cn X 16) Y)))) 0 0 49 [some (.ref (A 44)), some (.int (nI (i))), some (.int (nI (c))), some (.int (q)), some (.int (nI (to))), some (.int (X 20 (126 * (ne X 8 i) + 6 * (c) + ne X 13 i))), some (.int (X 20 (126 * (ne X 8 i) + 6 * (c) + ne X 14 i))), some (.int (nI (o))), none, none] [] (tp E A Yo)
    try dsimp only at iho
    refine z_iload d_M_call_49 rfl ?_
    refine z_aload_n d_M_call_51 rfl ?_
    refine z_get fa_M_160 d_M_call_52 (tp_o hA) rfl ?_
    refine z_top ((congrFun (hYo 16 (by decide)) 0).trans h16) ?_
    refine z_icmp_ge (tgt := 215) d_M_call_55 (by decide) (fun c55 => absurd c55 (nI_ge ho (by omega))) (fun c55 => ?_)
    have c55n := (not_congr (nI_leI (by omega) (by omega))).mp c55
    refine z_iload_n d_M_call_58 rfl ?_
    refine z_iload d_M_call_59 rfl ?_
    refine z_ishr d_M_call_61 ?_
    refine z_iconst d_M_call_62 ic_1 ?_
    refine z_iand d_M_call_63 ?_
    refine z_iconst d_M_call_64 ic_1 ?_
    refine z_icmp_ne (tgt := 88) d_M_call_65 (by decide) (fun c65 => ?_) (fun c65 => ?_)
    · refine z_iconst (v := -1) d_M_call_88 ic_m1 ?_
      refine z_istore d_M_call_89 (zlt rfl) ?_
      refine z_iload d_M_call_91 rfl ?_
      refine z_if_ge (tgt := 99) d_M_call_93 (by decide) (fun q => absurd q zneg2) (fun _ => ?_)
      refine z_goto (tgt := 209) d_M_call_96 (by decide) ?_
      refine z_iinc (v := nI (o + 1)) d_M_call_209 (zlt rfl) rfl (zinc _) ?_
      refine z_goto (tgt := 49) d_M_call_212 (by decide) ?_
      refine z_fl 8 ?_
      have e2 : tCa1 X i c q to o Yo = Yo := by
        unfold tCa1
        rw [if_neg (zbf (show tb q o = false from decide_eq_false c65))]
        try rfl
      rw [e2] at iho
      exact iho
    · refine z_aload_n d_M_call_68 rfl ?_
      refine z_aload_n d_M_call_69 rfl ?_
      refine z_get fa_M_46 d_M_call_70 (tp_o hA) rfl ?_
      refine z_iload d_M_call_73 rfl ?_
      refine z_iald (o) d_M_call_75 (tp_a hA 17 rfl) rfl (show o < 20 from by omega) (by decide) ?_
      refine z_top (congrFun (hYo 17 (by decide)) (o)) ?_
      refine z_aload_n d_M_call_76 rfl ?_
      refine z_get fa_M_34 d_M_call_77 (tp_o hA) rfl ?_
      refine z_iload_n d_M_call_80 rfl ?_
      refine z_iald (i) d_M_call_81 (tp_a hA 12 rfl) rfl (show i < 60 from by omega) (by decide) ?_
      refine z_top (congrFun (hYo 12 (by decide)) (i)) ?_
      refine z_cVi (c_M_foundY l E hA hYo hX (X 17 (o)) (X 12 (i)) (Or.inr (hs _ ho))) cb_M_found ci_M_found ln_M_180 (tp_o hA) rfl rfl (zlq rfl) rfl (zlq rfl) (zlq rfl) d_M_call_82 ?_
      refine z_goto (tgt := 89) d_M_call_85 (by decide) ?_
      refine z_istore d_M_call_89 (zlt rfl) ?_
      refine z_iload d_M_call_91 rfl ?_
      refine z_if_ge (tgt := 99) d_M_call_93 (by decide) (fun c93 => ?_) (fun c93 => ?_)
      · obtain ⟨mn, hmn, em⟩ := fdf_nat 9 _ c93 (by omega)
        rw [em]
        refine z_aload_n d_M_call_99 rfl ?_
        refine z_get fa_M_163 d_M_call_100 (tp_o hA) rfl ?_
        refine z_top (congrFun (hYo 18 (by decide)) 0) ?_
        refine z_if_ne (tgt := 110) d_M_call_103 (by decide) (fun c103 => ?_) (fun c103 => ?_)
        · refine z_iconst d_M_call_110 ic_1 ?_
          refine z_iload d_M_call_111 rfl ?_
          refine z_iadd d_M_call_113 ?_
          refine z_top (nI_add (1) (o)) ?_
          refine z_istore d_M_call_114 (zlt rfl) ?_
          refine z_aload_n d_M_call_116 rfl ?_
          refine z_get fa_M_76 d_M_call_117 (tp_o hA) rfl ?_
          refine z_iload d_M_call_120 rfl ?_
          refine z_dup2 d_M_call_122 rfl rfl ?_
          refine z_iald (mn) d_M_call_123 (tp_a hA 29 rfl) rfl (show mn < 10 from by omega) (by decide) ?_
          refine z_iconst d_M_call_124 ic_1 ?_
          refine z_iload d_M_call_125 rfl ?_
          refine z_ishl d_M_call_127 ?_
          refine z_ior d_M_call_128 ?_
          refine t_ast (kf := 29) (j := mn) d_M_call_129 hA rfl rfl (show mn < 10 from by omega) (by decide) ?_
          refine z_aload_n d_M_call_130 rfl ?_
          refine z_get fa_M_52 d_M_call_131 (tp_o hA) rfl ?_
          refine z_iload d_M_call_134 rfl ?_
          refine z_iload d_M_call_136 rfl ?_
          refine z_iconst d_M_call_138 ic_0 ?_
          refine z_cSi (c_M_nameAt l E _ (mn) (1 + o) (0)) cb_M_nameAt cs_M_nameAt ln_M_166 rfl rfl (zlq rfl) rfl (zlq rfl) (zlq rfl) d_M_call_139 ?_
          refine z_dup2 d_M_call_142 rfl rfl ?_
          refine z_iald (126 * (mn) + 6 * (1 + o) + 0) d_M_call_143 (tp_a hA 21 rfl) rfl (show 126 * (mn) + 6 * (1 + o) + 0 < 1260 from by omega) (by decide) ?_
          refine z_iconst d_M_call_144 ic_1 ?_
          refine z_iload d_M_call_145 rfl ?_
          refine z_ishl d_M_call_147 ?_
          refine z_ior d_M_call_148 ?_
          refine t_ast (kf := 21) (j := 126 * (mn) + 6 * (1 + o) + 0) d_M_call_149 hA rfl rfl (show 126 * (mn) + 6 * (1 + o) + 0 < 1260 from by omega) (by decide) ?_
          refine z_aload_n d_M_call_150 rfl ?_
          refine z_get fa_M_52 d_M_call_151 (tp_o hA) rfl ?_
          refine z_iload d_M_call_154 rfl ?_
          refine z_iload d_M_call_156 rfl ?_
          refine z_iconst d_M_call_158 ic_1 ?_
          refine z_cSi (c_M_nameAt l E _ (mn) (1 + o) (1)) cb_M_nameAt cs_M_nameAt ln_M_166 rfl rfl (zlq rfl) rfl (zlq rfl) (zlq rfl) d_M_call_159 ?_
          refine z_dup2 d_M_call_162 rfl rfl ?_
          refine z_iald (126 * (mn) + 6 * (1 + o) + 1) d_M_call_163 (tp_a hA 21 rfl) rfl (show 126 * (mn) + 6 * (1 + o) + 1 < 1260 from by omega) (by decide) ?_
          refine z_iload d_M_call_164 rfl ?_
          refine z_ior d_M_call_166 ?_
          refine t_ast (kf := 21) (j := 126 * (mn) + 6 * (1 + o) + 1) d_M_call_167 hA rfl rfl (show 126 * (mn) + 6 * (1 + o) + 1 < 1260 from by omega) (by decide) ?_
          refine z_aload_n d_M_call_168 rfl ?_
          refine z_get fa_M_52 d_M_call_169 (tp_o hA) rfl ?_
          refine z_iload d_M_call_172 rfl ?_
          refine z_iload d_M_call_174 rfl ?_
          refine z_iconst d_M_call_176 ic_2 ?_
          refine z_cSi (c_M_nameAt l E _ (mn) (1 + o) (2)) cb_M_nameAt cs_M_nameAt ln_M_166 rfl rfl (zlq rfl) rfl (zlq rfl) (zlq rfl) d_M_call_177 ?_
          refine z_dup2 d_M_call_180 rfl rfl ?_
          refine z_iald (126 * (mn) + 6 * (1 + o) + 2) d_M_call_181 (tp_a hA 21 rfl) rfl (show 126 * (mn) + 6 * (1 + o) + 2 < 1260 from by omega) (by decide) ?_
          refine z_iload d_M_call_182 rfl ?_
          refine z_ior d_M_call_184 ?_
          refine t_ast (kf := 21) (j := 126 * (mn) + 6 * (1 + o) + 2) d_M_call_185 hA rfl rfl (show 126 * (mn) + 6 * (1 + o) + 2 < 1260 from by omega) (by decide) ?_
          refine z_aload_n d_M_call_186 rfl ?_
          refine z_get fa_M_52 d_M_call_187 (tp_o hA) rfl ?_
          refine z_iload d_M_call_190 rfl ?_
          refine z_dup2 d_M_call_192 rfl rfl ?_
          refine z_iald (to) d_M_call_193 (tp_a hA 21 rfl) rfl (show to < 1260 from by omega) (by decide) ?_
          refine z_aload_n d_M_call_194 rfl ?_
          refine z_get fa_M_49 d_M_call_195 (tp_o hA) rfl ?_
          refine z_iload d_M_call_198 rfl ?_
          refine z_iload d_M_call_200 rfl ?_
          refine z_iconst d_M_call_202 ic_5 ?_
          refine z_cSi (c_M_nameAt l E _ (mn) (1 + o) (5)) cb_M_nameAt cs_M_nameAt ln_M_166 rfl rfl (zlq rfl) rfl (zlq rfl) (zlq rfl) d_M_call_203 ?_
          refine z_iald (126 * (mn) + 6 * (1 + o) + 5) d_M_call_206 (tp_a hA 20 rfl) rfl (show 126 * (mn) + 6 * (1 + o) + 5 < 1260 from by omega) (by decide) ?_
          refine z_top (congrFun (hYo 20 (by decide)) (126 * (mn) + 6 * (1 + o) + 5)) ?_
          refine z_ior d_M_call_207 ?_
          refine t_ast (kf := 21) (j := to) d_M_call_208 hA rfl rfl (show to < 1260 from by omega) (by decide) ?_
          refine z_iinc (v := nI (o + 1)) d_M_call_209 (zlt rfl) rfl (zinc _) ?_
          refine z_goto (tgt := 49) d_M_call_212 (by decide) ?_
          refine z_fl 8 ?_
          refine z_fl 9 ?_
          have e2 : tCa1 X i c q to o Yo = (va_up (va_up (va_up (va_up (va_up Yo 29 (upd (Yo 29) (mn) ((Yo 29 (mn) ||| (nI 1 <<< (nI (1 + o) &&& 31)))))) 21 (upd ((va_up Yo 29 (upd (Yo 29) (mn) ((Yo 29 (mn) ||| (nI 1 <<< (nI (1 + o) &&& 31)))))) 21) (126 * (mn) + 6 * (1 + o) + 0) (((va_up Yo 29 (upd (Yo 29) (mn) ((Yo 29 (mn) ||| (nI 1 <<< (nI (1 + o) &&& 31)))))) 21 (126 * (mn) + 6 * (1 + o) + 0) ||| (nI 1 <<< (nI (o) &&& 31)))))) 21 (upd ((va_up (va_up Yo 29 (upd (Yo 29) (mn) ((Yo 29 (mn) ||| (nI 1 <<< (nI (1 + o) &&& 31)))))) 21 (upd ((va_up Yo 29 (upd (Yo 29) (mn) ((Yo 29 (mn) ||| (nI 1 <<< (nI (1 + o) &&& 31)))))) 21) (126 * (mn) + 6 * (1 + o) + 0) (((va_up Yo 29 (upd (Yo 29) (mn) ((Yo 29 (mn) ||| (nI 1 <<< (nI (1 + o) &&& 31)))))) 21 (126 * (mn) + 6 * (1 + o) + 0) ||| (nI 1 <<< (nI (o) &&& 31)))))) 21) (126 * (mn) + 6 * (1 + o) + 1) (((va_up (va_up Yo 29 (upd (Yo 29) (mn) ((Yo 29 (mn) ||| (nI 1 <<< (nI (1 + o) &&& 31)))))) 21 (upd ((va_up Yo 29 (upd (Yo 29) (mn) ((Yo 29 (mn) ||| (nI 1 <<< (nI (1 + o) &&& 31)))))) 21) (126 * (mn) + 6 * (1 + o) + 0) (((va_up Yo 29 (upd (Yo 29) (mn) ((Yo 29 (mn) ||| (nI 1 <<< (nI (1 + o) &&& 31)))))) 21 (126 * (mn) + 6 * (1 + o) + 0) ||| (nI 1 <<< (nI (o) &&& 31)))))) 21 (126 * (mn) + 6 * (1 + o) + 1) ||| X 20 (126 * (ne X 8 i) + 6 * (c) + ne X 13 i))))) 21 (upd ((va_up (va_up (va_up Yo 29 (upd (Yo 29) (mn) ((Yo 29 (mn) ||| (nI 1 <<< (nI (1 + o) &&& 31)))))) 21 (upd ((va_up Yo 29 (upd (Yo 29) (mn) ((Yo 29 (mn) ||| (nI 1 <<< (nI (1 + o) &&& 31)))))) 21) (126 * (mn) + 6 * (1 + o) + 0) (((va_up Yo 29 (upd (Yo 29) (mn) ((Yo 29 (mn) ||| (nI 1 <<< (nI (1 + o) &&& 31)))))) 21 (126 * (mn) + 6 * (1 + o) + 0) ||| (nI 1 <<< (nI (o) &&& 31)))))) 21 (upd ((va_up (va_up Yo 29 (upd (Yo 29) (mn) ((Yo 29 (mn) ||| (nI 1 <<< (nI (1 + o) &&& 31)))))) 21 (upd ((va_up Yo 29 (upd (Yo 29) (mn) ((Yo 29 (mn) ||| (nI 1 <<< (nI (1 + o) &&& 31)))))) 21) (126 * (mn) + 6 * (1 + o) + 0) (((va_up Yo 29 (upd (Yo 29) (mn) ((Yo 29 (mn) ||| (nI 1 <<< (nI (1 + o) &&& 31)))))) 21 (126 * (mn) + 6 * (1 + o) + 0) ||| (nI 1 <<< (nI (o) &&& 31)))))) 21) (126 * (mn) + 6 * (1 + o) + 1) (((va_up (va_up Yo 29 (upd (Yo 29) (mn) ((Yo 29 (mn) ||| (nI 1 <<< (nI (1 + o) &&& 31)))))) 21 (upd ((va_up Yo 29 (upd (Yo 29) (mn) ((Yo 29 (mn) ||| (nI 1 <<< (nI (1 + o) &&& 31)))))) 21) (126 * (mn) + 6 * (1 + o) + 0) (((va_up Yo 29 (upd (Yo 29) (mn) ((Yo 29 (mn) ||| (nI 1 <<< (nI (1 + o) &&& 31)))))) 21 (126 * (mn) + 6 * (1 + o) + 0) ||| (nI 1 <<< (nI (o) &&& 31)))))) 21 (126 * (mn) + 6 * (1 + o) + 1) ||| X 20 (126 * (ne X 8 i) + 6 * (c) + ne X 13 i))))) 21) (126 * (mn) + 6 * (1 + o) + 2) (((va_up (va_up (va_up Yo 29 (upd (Yo 29) (mn) ((Yo 29 (mn) ||| (nI 1 <<< (nI (1 + o) &&& 31)))))) 21 (upd ((va_up Yo 29 (upd (Yo 29) (mn) ((Yo 29 (mn) ||| (nI 1 <<< (nI (1 + o) &&& 31)))))) 21) (126 * (mn) + 6 * (1 + o) + 0) (((va_up Yo 29 (upd (Yo 29) (mn) ((Yo 29 (mn) ||| (nI 1 <<< (nI (1 + o) &&& 31)))))) 21 (126 * (mn) + 6 * (1 + o) + 0) ||| (nI 1 <<< (nI (o) &&& 31)))))) 21 (upd ((va_up (va_up Yo 29 (upd (Yo 29) (mn) ((Yo 29 (mn) ||| (nI 1 <<< (nI (1 + o) &&& 31)))))) 21 (upd ((va_up Yo 29 (upd (Yo 29) (mn) ((Yo 29 (mn) ||| (nI 1 <<< (nI (1 + o) &&& 31)))))) 21) (126 * (mn) + 6 * (1 + o) + 0) (((va_up Yo 29 (upd (Yo 29) (mn) ((Yo 29 (mn) ||| (nI 1 <<< (nI (1 + o) &&& 31)))))) 21 (126 * (mn) + 6 * (1 + o) + 0) ||| (nI 1 <<< (nI (o) &&& 31)))))) 21) (126 * (mn) + 6 * (1 + o) + 1) (((va_up (va_up Yo 29 (upd (Yo 29) (mn) ((Yo 29 (mn) ||| (nI 1 <<< (nI (1 + o) &&& 31)))))) 21 (upd ((va_up Yo 29 (upd (Yo 29) (mn) ((Yo 29 (mn) ||| (nI 1 <<< (nI (1 + o) &&& 31)))))) 21) (126 * (mn) + 6 * (1 + o) + 0) (((va_up Yo 29 (upd (Yo 29) (mn) ((Yo 29 (mn) ||| (nI 1 <<< (nI (1 + o) &&& 31)))))) 21 (126 * (mn) + 6 * (1 + o) + 0) ||| (nI 1 <<< (nI (o) &&& 31)))))) 21 (126 * (mn) + 6 * (1 + o) + 1) ||| X 20 (126 * (ne X 8 i) + 6 * (c) + ne X 13 i))))) 21 (126 * (mn) + 6 * (1 + o) + 2) ||| X 20 (126 * (ne X 8 i) + 6 * (c) + ne X 14 i))))) 21 (upd ((va_up (va_up (va_up (va_up Yo 29 (upd (Yo 29) (mn) ((Yo 29 (mn) ||| (nI 1 <<< (nI (1 + o) &&& 31)))))) 21 (upd ((va_up Yo 29 (upd (Yo 29) (mn) ((Yo 29 (mn) ||| (nI 1 <<< (nI (1 + o) &&& 31)))))) 21) (126 * (mn) + 6 * (1 + o) + 0) (((va_up Yo 29 (upd (Yo 29) (mn) ((Yo 29 (mn) ||| (nI 1 <<< (nI (1 + o) &&& 31)))))) 21 (126 * (mn) + 6 * (1 + o) + 0) ||| (nI 1 <<< (nI (o) &&& 31)))))) 21 (upd ((va_up (va_up Yo 29 (upd (Yo 29) (mn) ((Yo 29 (mn) ||| (nI 1 <<< (nI (1 + o) &&& 31)))))) 21 (upd ((va_up Yo 29 (upd (Yo 29) (mn) ((Yo 29 (mn) ||| (nI 1 <<< (nI (1 + o) &&& 31)))))) 21) (126 * (mn) + 6 * (1 + o) + 0) (((va_up Yo 29 (upd (Yo 29) (mn) ((Yo 29 (mn) ||| (nI 1 <<< (nI (1 + o) &&& 31)))))) 21 (126 * (mn) + 6 * (1 + o) + 0) ||| (nI 1 <<< (nI (o) &&& 31)))))) 21) (126 * (mn) + 6 * (1 + o) + 1) (((va_up (va_up Yo 29 (upd (Yo 29) (mn) ((Yo 29 (mn) ||| (nI 1 <<< (nI (1 + o) &&& 31)))))) 21 (upd ((va_up Yo 29 (upd (Yo 29) (mn) ((Yo 29 (mn) ||| (nI 1 <<< (nI (1 + o) &&& 31)))))) 21) (126 * (mn) + 6 * (1 + o) + 0) (((va_up Yo 29 (upd (Yo 29) (mn) ((Yo 29 (mn) ||| (nI 1 <<< (nI (1 + o) &&& 31)))))) 21 (126 * (mn) + 6 * (1 + o) + 0) ||| (nI 1 <<< (nI (o) &&& 31)))))) 21 (126 * (mn) + 6 * (1 + o) + 1) ||| X 20 (126 * (ne X 8 i) + 6 * (c) + ne X 13 i))))) 21 (upd ((va_up (va_up (va_up Yo 29 (upd (Yo 29) (mn) ((Yo 29 (mn) ||| (nI 1 <<< (nI (1 + o) &&& 31)))))) 21 (upd ((va_up Yo 29 (upd (Yo 29) (mn) ((Yo 29 (mn) ||| (nI 1 <<< (nI (1 + o) &&& 31)))))) 21) (126 * (mn) + 6 * (1 + o) + 0) (((va_up Yo 29 (upd (Yo 29) (mn) ((Yo 29 (mn) ||| (nI 1 <<< (nI (1 + o) &&& 31)))))) 21 (126 * (mn) + 6 * (1 + o) + 0) ||| (nI 1 <<< (nI (o) &&& 31)))))) 21 (upd ((va_up (va_up Yo 29 (upd (Yo 29) (mn) ((Yo 29 (mn) ||| (nI 1 <<< (nI (1 + o) &&& 31)))))) 21 (upd ((va_up Yo 29 (upd (Yo 29) (mn) ((Yo 29 (mn) ||| (nI 1 <<< (nI (1 + o) &&& 31)))))) 21) (126 * (mn) + 6 * (1 + o) + 0) (((va_up Yo 29 (upd (Yo 29) (mn) ((Yo 29 (mn) ||| (nI 1 <<< (nI (1 + o) &&& 31)))))) 21 (126 * (mn) + 6 * (1 + o) + 0) ||| (nI 1 <<< (nI (o) &&& 31)))))) 21) (126 * (mn) + 6 * (1 + o) + 1) (((va_up (va_up Yo 29 (upd (Yo 29) (mn) ((Yo 29 (mn) ||| (nI 1 <<< (nI (1 + o) &&& 31)))))) 21 (upd ((va_up Yo 29 (upd (Yo 29) (mn) ((Yo 29 (mn) ||| (nI 1 <<< (nI (1 + o) &&& 31)))))) 21) (126 * (mn) + 6 * (1 + o) + 0) (((va_up Yo 29 (upd (Yo 29) (mn) ((Yo 29 (mn) ||| (nI 1 <<< (nI (1 + o) &&& 31)))))) 21 (126 * (mn) + 6 * (1 + o) + 0) ||| (nI 1 <<< (nI (o) &&& 31)))))) 21 (126 * (mn) + 6 * (1 + o) + 1) ||| X 20 (126 * (ne X 8 i) + 6 * (c) + ne X 13 i))))) 21) (126 * (mn) + 6 * (1 + o) + 2) (((va_up (va_up (va_up Yo 29 (upd (Yo 29) (mn) ((Yo 29 (mn) ||| (nI 1 <<< (nI (1 + o) &&& 31)))))) 21 (upd ((va_up Yo 29 (upd (Yo 29) (mn) ((Yo 29 (mn) ||| (nI 1 <<< (nI (1 + o) &&& 31)))))) 21) (126 * (mn) + 6 * (1 + o) + 0) (((va_up Yo 29 (upd (Yo 29) (mn) ((Yo 29 (mn) ||| (nI 1 <<< (nI (1 + o) &&& 31)))))) 21 (126 * (mn) + 6 * (1 + o) + 0) ||| (nI 1 <<< (nI (o) &&& 31)))))) 21 (upd ((va_up (va_up Yo 29 (upd (Yo 29) (mn) ((Yo 29 (mn) ||| (nI 1 <<< (nI (1 + o) &&& 31)))))) 21 (upd ((va_up Yo 29 (upd (Yo 29) (mn) ((Yo 29 (mn) ||| (nI 1 <<< (nI (1 + o) &&& 31)))))) 21) (126 * (mn) + 6 * (1 + o) + 0) (((va_up Yo 29 (upd (Yo 29) (mn) ((Yo 29 (mn) ||| (nI 1 <<< (nI (1 + o) &&& 31)))))) 21 (126 * (mn) + 6 * (1 + o) + 0) ||| (nI 1 <<< (nI (o) &&& 31)))))) 21) (126 * (mn) + 6 * (1 + o) + 1) (((va_up (va_up Yo 29 (upd (Yo 29) (mn) ((Yo 29 (mn) ||| (nI 1 <<< (nI (1 + o) &&& 31)))))) 21 (upd ((va_up Yo 29 (upd (Yo 29) (mn) ((Yo 29 (mn) ||| (nI 1 <<< (nI (1 + o) &&& 31)))))) 21) (126 * (mn) + 6 * (1 + o) + 0) (((va_up Yo 29 (upd (Yo 29) (mn) ((Yo 29 (mn) ||| (nI 1 <<< (nI (1 + o) &&& 31)))))) 21 (126 * (mn) + 6 * (1 + o) + 0) ||| (nI 1 <<< (nI (o) &&& 31)))))) 21 (126 * (mn) + 6 * (1 + o) + 1) ||| X 20 (126 * (ne X 8 i) + 6 * (c) + ne X 13 i))))) 21 (126 * (mn) + 6 * (1 + o) + 2) ||| X 20 (126 * (ne X 8 i) + 6 * (c) + ne X 14 i))))) 21) (to) (((va_up (va_up (va_up (va_up Yo 29 (upd (Yo 29) (mn) ((Yo 29 (mn) ||| (nI 1 <<< (nI (1 + o) &&& 31)))))) 21 (upd ((va_up Yo 29 (upd (Yo 29) (mn) ((Yo 29 (mn) ||| (nI 1 <<< (nI (1 + o) &&& 31)))))) 21) (126 * (mn) + 6 * (1 + o) + 0) (((va_up Yo 29 (upd (Yo 29) (mn) ((Yo 29 (mn) ||| (nI 1 <<< (nI (1 + o) &&& 31)))))) 21 (126 * (mn) + 6 * (1 + o) + 0) ||| (nI 1 <<< (nI (o) &&& 31)))))) 21 (upd ((va_up (va_up Yo 29 (upd (Yo 29) (mn) ((Yo 29 (mn) ||| (nI 1 <<< (nI (1 + o) &&& 31)))))) 21 (upd ((va_up Yo 29 (upd (Yo 29) (mn) ((Yo 29 (mn) ||| (nI 1 <<< (nI (1 + o) &&& 31)))))) 21) (126 * (mn) + 6 * (1 + o) + 0) (((va_up Yo 29 (upd (Yo 29) (mn) ((Yo 29 (mn) ||| (nI 1 <<< (nI (1 + o) &&& 31)))))) 21 (126 * (mn) + 6 * (1 + o) + 0) ||| (nI 1 <<< (nI (o) &&& 31)))))) 21) (126 * (mn) + 6 * (1 + o) + 1) (((va_up (va_up Yo 29 (upd (Yo 29) (mn) ((Yo 29 (mn) ||| (nI 1 <<< (nI (1 + o) &&& 31)))))) 21 (upd ((va_up Yo 29 (upd (Yo 29) (mn) ((Yo 29 (mn) ||| (nI 1 <<< (nI (1 + o) &&& 31)))))) 21) (126 * (mn) + 6 * (1 + o) + 0) (((va_up Yo 29 (upd (Yo 29) (mn) ((Yo 29 (mn) ||| (nI 1 <<< (nI (1 + o) &&& 31)))))) 21 (126 * (mn) + 6 * (1 + o) + 0) ||| (nI 1 <<< (nI (o) &&& 31)))))) 21 (126 * (mn) + 6 * (1 + o) + 1) ||| X 20 (126 * (ne X 8 i) + 6 * (c) + ne X 13 i))))) 21 (upd ((va_up (va_up (va_up Yo 29 (upd (Yo 29) (mn) ((Yo 29 (mn) ||| (nI 1 <<< (nI (1 + o) &&& 31)))))) 21 (upd ((va_up Yo 29 (upd (Yo 29) (mn) ((Yo 29 (mn) ||| (nI 1 <<< (nI (1 + o) &&& 31)))))) 21) (126 * (mn) + 6 * (1 + o) + 0) (((va_up Yo 29 (upd (Yo 29) (mn) ((Yo 29 (mn) ||| (nI 1 <<< (nI (1 + o) &&& 31)))))) 21 (126 * (mn) + 6 * (1 + o) + 0) ||| (nI 1 <<< (nI (o) &&& 31)))))) 21 (upd ((va_up (va_up Yo 29 (upd (Yo 29) (mn) ((Yo 29 (mn) ||| (nI 1 <<< (nI (1 + o) &&& 31)))))) 21 (upd ((va_up Yo 29 (upd (Yo 29) (mn) ((Yo 29 (mn) ||| (nI 1 <<< (nI (1 + o) &&& 31)))))) 21) (126 * (mn) + 6 * (1 + o) + 0) (((va_up Yo 29 (upd (Yo 29) (mn) ((Yo 29 (mn) ||| (nI 1 <<< (nI (1 + o) &&& 31)))))) 21 (126 * (mn) + 6 * (1 + o) + 0) ||| (nI 1 <<< (nI (o) &&& 31)))))) 21) (126 * (mn) + 6 * (1 + o) + 1) (((va_up (va_up Yo 29 (upd (Yo 29) (mn) ((Yo 29 (mn) ||| (nI 1 <<< (nI (1 + o) &&& 31)))))) 21 (upd ((va_up Yo 29 (upd (Yo 29) (mn) ((Yo 29 (mn) ||| (nI 1 <<< (nI (1 + o) &&& 31)))))) 21) (126 * (mn) + 6 * (1 + o) + 0) (((va_up Yo 29 (upd (Yo 29) (mn) ((Yo 29 (mn) ||| (nI 1 <<< (nI (1 + o) &&& 31)))))) 21 (126 * (mn) + 6 * (1 + o) + 0) ||| (nI 1 <<< (nI (o) &&& 31)))))) 21 (126 * (mn) + 6 * (1 + o) + 1) ||| X 20 (126 * (ne X 8 i) + 6 * (c) + ne X 13 i))))) 21) (126 * (mn) + 6 * (1 + o) + 2) (((va_up (va_up (va_up Yo 29 (upd (Yo 29) (mn) ((Yo 29 (mn) ||| (nI 1 <<< (nI (1 + o) &&& 31)))))) 21 (upd ((va_up Yo 29 (upd (Yo 29) (mn) ((Yo 29 (mn) ||| (nI 1 <<< (nI (1 + o) &&& 31)))))) 21) (126 * (mn) + 6 * (1 + o) + 0) (((va_up Yo 29 (upd (Yo 29) (mn) ((Yo 29 (mn) ||| (nI 1 <<< (nI (1 + o) &&& 31)))))) 21 (126 * (mn) + 6 * (1 + o) + 0) ||| (nI 1 <<< (nI (o) &&& 31)))))) 21 (upd ((va_up (va_up Yo 29 (upd (Yo 29) (mn) ((Yo 29 (mn) ||| (nI 1 <<< (nI (1 + o) &&& 31)))))) 21 (upd ((va_up Yo 29 (upd (Yo 29) (mn) ((Yo 29 (mn) ||| (nI 1 <<< (nI (1 + o) &&& 31)))))) 21) (126 * (mn) + 6 * (1 + o) + 0) (((va_up Yo 29 (upd (Yo 29) (mn) ((Yo 29 (mn) ||| (nI 1 <<< (nI (1 + o) &&& 31)))))) 21 (126 * (mn) + 6 * (1 + o) + 0) ||| (nI 1 <<< (nI (o) &&& 31)))))) 21) (126 * (mn) + 6 * (1 + o) + 1) (((va_up (va_up Yo 29 (upd (Yo 29) (mn) ((Yo 29 (mn) ||| (nI 1 <<< (nI (1 + o) &&& 31)))))) 21 (upd ((va_up Yo 29 (upd (Yo 29) (mn) ((Yo 29 (mn) ||| (nI 1 <<< (nI (1 + o) &&& 31)))))) 21) (126 * (mn) + 6 * (1 + o) + 0) (((va_up Yo 29 (upd (Yo 29) (mn) ((Yo 29 (mn) ||| (nI 1 <<< (nI (1 + o) &&& 31)))))) 21 (126 * (mn) + 6 * (1 + o) + 0) ||| (nI 1 <<< (nI (o) &&& 31)))))) 21 (126 * (mn) + 6 * (1 + o) + 1) ||| X 20 (126 * (ne X 8 i) + 6 * (c) + ne X 13 i))))) 21 (126 * (mn) + 6 * (1 + o) + 2) ||| X 20 (126 * (ne X 8 i) + 6 * (c) + ne X 14 i))))) 21 (to) ||| X 20 (126 * (mn) + 6 * (1 + o) + 5))))) := by
            unfold tCa1
            rw [if_pos (show tb q o = true from decide_eq_true c65), if_pos c93, em, nI_clamp (show mn < 2 ^ 31 by omega)]
            unfold tCx
            rw [if_neg c103]
            try rfl
          rw [e2] at iho
          exact iho
        · refine z_iconst d_M_call_106 ic_0 ?_
          refine z_goto (tgt := 114) d_M_call_107 (by decide) ?_
          refine z_istore d_M_call_114 (zlt rfl) ?_
          refine z_aload_n d_M_call_116 rfl ?_
          refine z_get fa_M_76 d_M_call_117 (tp_o hA) rfl ?_
          refine z_iload d_M_call_120 rfl ?_
          refine z_dup2 d_M_call_122 rfl rfl ?_
          refine z_iald (mn) d_M_call_123 (tp_a hA 29 rfl) rfl (show mn < 10 from by omega) (by decide) ?_
          refine z_iconst d_M_call_124 ic_1 ?_
          refine z_iload d_M_call_125 rfl ?_
          refine z_ishl d_M_call_127 ?_
          refine z_ior d_M_call_128 ?_
          refine t_ast (kf := 29) (j := mn) d_M_call_129 hA rfl rfl (show mn < 10 from by omega) (by decide) ?_
          refine z_aload_n d_M_call_130 rfl ?_
          refine z_get fa_M_52 d_M_call_131 (tp_o hA) rfl ?_
          refine z_iload d_M_call_134 rfl ?_
          refine z_iload d_M_call_136 rfl ?_
          refine z_iconst d_M_call_138 ic_0 ?_
          refine z_cSi (c_M_nameAt l E _ (mn) (0) (0)) cb_M_nameAt cs_M_nameAt ln_M_166 rfl rfl (zlq rfl) rfl (zlq rfl) (zlq rfl) d_M_call_139 ?_
          refine z_dup2 d_M_call_142 rfl rfl ?_
          refine z_iald (126 * (mn) + 6 * (0) + 0) d_M_call_143 (tp_a hA 21 rfl) rfl (show 126 * (mn) + 6 * (0) + 0 < 1260 from by omega) (by decide) ?_
          refine z_iconst d_M_call_144 ic_1 ?_
          refine z_iload d_M_call_145 rfl ?_
          refine z_ishl d_M_call_147 ?_
          refine z_ior d_M_call_148 ?_
          refine t_ast (kf := 21) (j := 126 * (mn) + 6 * (0) + 0) d_M_call_149 hA rfl rfl (show 126 * (mn) + 6 * (0) + 0 < 1260 from by omega) (by decide) ?_
          refine z_aload_n d_M_call_150 rfl ?_
          refine z_get fa_M_52 d_M_call_151 (tp_o hA) rfl ?_
          refine z_iload d_M_call_154 rfl ?_
          refine z_iload d_M_call_156 rfl ?_
          refine z_iconst d_M_call_158 ic_1 ?_
          refine z_cSi (c_M_nameAt l E _ (mn) (0) (1)) cb_M_nameAt cs_M_nameAt ln_M_166 rfl rfl (zlq rfl) rfl (zlq rfl) (zlq rfl) d_M_call_159 ?_
          refine z_dup2 d_M_call_162 rfl rfl ?_
          refine z_iald (126 * (mn) + 6 * (0) + 1) d_M_call_163 (tp_a hA 21 rfl) rfl (show 126 * (mn) + 6 * (0) + 1 < 1260 from by omega) (by decide) ?_
          refine z_iload d_M_call_164 rfl ?_
          refine z_ior d_M_call_166 ?_
          refine t_ast (kf := 21) (j := 126 * (mn) + 6 * (0) + 1) d_M_call_167 hA rfl rfl (show 126 * (mn) + 6 * (0) + 1 < 1260 from by omega) (by decide) ?_
          refine z_aload_n d_M_call_168 rfl ?_
          refine z_get fa_M_52 d_M_call_169 (tp_o hA) rfl ?_
          refine z_iload d_M_call_172 rfl ?_
          refine z_iload d_M_call_174 rfl ?_
          refine z_iconst d_M_call_176 ic_2 ?_
          refine z_cSi (c_M_nameAt l E _ (mn) (0) (2)) cb_M_nameAt cs_M_nameAt ln_M_166 rfl rfl (zlq rfl) rfl (zlq rfl) (zlq rfl) d_M_call_177 ?_
          refine z_dup2 d_M_call_180 rfl rfl ?_
          refine z_iald (126 * (mn) + 6 * (0) + 2) d_M_call_181 (tp_a hA 21 rfl) rfl (show 126 * (mn) + 6 * (0) + 2 < 1260 from by omega) (by decide) ?_
          refine z_iload d_M_call_182 rfl ?_
          refine z_ior d_M_call_184 ?_
          refine t_ast (kf := 21) (j := 126 * (mn) + 6 * (0) + 2) d_M_call_185 hA rfl rfl (show 126 * (mn) + 6 * (0) + 2 < 1260 from by omega) (by decide) ?_
          refine z_aload_n d_M_call_186 rfl ?_
          refine z_get fa_M_52 d_M_call_187 (tp_o hA) rfl ?_
          refine z_iload d_M_call_190 rfl ?_
          refine z_dup2 d_M_call_192 rfl rfl ?_
          refine z_iald (to) d_M_call_193 (tp_a hA 21 rfl) rfl (show to < 1260 from by omega) (by decide) ?_
          refine z_aload_n d_M_call_194 rfl ?_
          refine z_get fa_M_49 d_M_call_195 (tp_o hA) rfl ?_
          refine z_iload d_M_call_198 rfl ?_
          refine z_iload d_M_call_200 rfl ?_
          refine z_iconst d_M_call_202 ic_5 ?_
          refine z_cSi (c_M_nameAt l E _ (mn) (0) (5)) cb_M_nameAt cs_M_nameAt ln_M_166 rfl rfl (zlq rfl) rfl (zlq rfl) (zlq rfl) d_M_call_203 ?_
          refine z_iald (126 * (mn) + 6 * (0) + 5) d_M_call_206 (tp_a hA 20 rfl) rfl (show 126 * (mn) + 6 * (0) + 5 < 1260 from by omega) (by decide) ?_
          refine z_top (congrFun (hYo 20 (by decide)) (126 * (mn) + 6 * (0) + 5)) ?_
          refine z_ior d_M_call_207 ?_
          refine t_ast (kf := 21) (j := to) d_M_call_208 hA rfl rfl (show to < 1260 from by omega) (by decide) ?_
          refine z_iinc (v := nI (o + 1)) d_M_call_209 (zlt rfl) rfl (zinc _) ?_
          refine z_goto (tgt := 49) d_M_call_212 (by decide) ?_
          refine z_fl 8 ?_
          refine z_fl 9 ?_
          have e2 : tCa1 X i c q to o Yo = (va_up (va_up (va_up (va_up (va_up Yo 29 (upd (Yo 29) (mn) ((Yo 29 (mn) ||| (nI 1 <<< (nI 0 &&& 31)))))) 21 (upd ((va_up Yo 29 (upd (Yo 29) (mn) ((Yo 29 (mn) ||| (nI 1 <<< (nI 0 &&& 31)))))) 21) (126 * (mn) + 6 * (0) + 0) (((va_up Yo 29 (upd (Yo 29) (mn) ((Yo 29 (mn) ||| (nI 1 <<< (nI 0 &&& 31)))))) 21 (126 * (mn) + 6 * (0) + 0) ||| (nI 1 <<< (nI (o) &&& 31)))))) 21 (upd ((va_up (va_up Yo 29 (upd (Yo 29) (mn) ((Yo 29 (mn) ||| (nI 1 <<< (nI 0 &&& 31)))))) 21 (upd ((va_up Yo 29 (upd (Yo 29) (mn) ((Yo 29 (mn) ||| (nI 1 <<< (nI 0 &&& 31)))))) 21) (126 * (mn) + 6 * (0) + 0) (((va_up Yo 29 (upd (Yo 29) (mn) ((Yo 29 (mn) ||| (nI 1 <<< (nI 0 &&& 31)))))) 21 (126 * (mn) + 6 * (0) + 0) ||| (nI 1 <<< (nI (o) &&& 31)))))) 21) (126 * (mn) + 6 * (0) + 1) (((va_up (va_up Yo 29 (upd (Yo 29) (mn) ((Yo 29 (mn) ||| (nI 1 <<< (nI 0 &&& 31)))))) 21 (upd ((va_up Yo 29 (upd (Yo 29) (mn) ((Yo 29 (mn) ||| (nI 1 <<< (nI 0 &&& 31)))))) 21) (126 * (mn) + 6 * (0) + 0) (((va_up Yo 29 (upd (Yo 29) (mn) ((Yo 29 (mn) ||| (nI 1 <<< (nI 0 &&& 31)))))) 21 (126 * (mn) + 6 * (0) + 0) ||| (nI 1 <<< (nI (o) &&& 31)))))) 21 (126 * (mn) + 6 * (0) + 1) ||| X 20 (126 * (ne X 8 i) + 6 * (c) + ne X 13 i))))) 21 (upd ((va_up (va_up (va_up Yo 29 (upd (Yo 29) (mn) ((Yo 29 (mn) ||| (nI 1 <<< (nI 0 &&& 31)))))) 21 (upd ((va_up Yo 29 (upd (Yo 29) (mn) ((Yo 29 (mn) ||| (nI 1 <<< (nI 0 &&& 31)))))) 21) (126 * (mn) + 6 * (0) + 0) (((va_up Yo 29 (upd (Yo 29) (mn) ((Yo 29 (mn) ||| (nI 1 <<< (nI 0 &&& 31)))))) 21 (126 * (mn) + 6 * (0) + 0) ||| (nI 1 <<< (nI (o) &&& 31)))))) 21 (upd ((va_up (va_up Yo 29 (upd (Yo 29) (mn) ((Yo 29 (mn) ||| (nI 1 <<< (nI 0 &&& 31)))))) 21 (upd ((va_up Yo 29 (upd (Yo 29) (mn) ((Yo 29 (mn) ||| (nI 1 <<< (nI 0 &&& 31)))))) 21) (126 * (mn) + 6 * (0) + 0) (((va_up Yo 29 (upd (Yo 29) (mn) ((Yo 29 (mn) ||| (nI 1 <<< (nI 0 &&& 31)))))) 21 (126 * (mn) + 6 * (0) + 0) ||| (nI 1 <<< (nI (o) &&& 31)))))) 21) (126 * (mn) + 6 * (0) + 1) (((va_up (va_up Yo 29 (upd (Yo 29) (mn) ((Yo 29 (mn) ||| (nI 1 <<< (nI 0 &&& 31)))))) 21 (upd ((va_up Yo 29 (upd (Yo 29) (mn) ((Yo 29 (mn) ||| (nI 1 <<< (nI 0 &&& 31)))))) 21) (126 * (mn) + 6 * (0) + 0) (((va_up Yo 29 (upd (Yo 29) (mn) ((Yo 29 (mn) ||| (nI 1 <<< (nI 0 &&& 31)))))) 21 (126 * (mn) + 6 * (0) + 0) ||| (nI 1 <<< (nI (o) &&& 31)))))) 21 (126 * (mn) + 6 * (0) + 1) ||| X 20 (126 * (ne X 8 i) + 6 * (c) + ne X 13 i))))) 21) (126 * (mn) + 6 * (0) + 2) (((va_up (va_up (va_up Yo 29 (upd (Yo 29) (mn) ((Yo 29 (mn) ||| (nI 1 <<< (nI 0 &&& 31)))))) 21 (upd ((va_up Yo 29 (upd (Yo 29) (mn) ((Yo 29 (mn) ||| (nI 1 <<< (nI 0 &&& 31)))))) 21) (126 * (mn) + 6 * (0) + 0) (((va_up Yo 29 (upd (Yo 29) (mn) ((Yo 29 (mn) ||| (nI 1 <<< (nI 0 &&& 31)))))) 21 (126 * (mn) + 6 * (0) + 0) ||| (nI 1 <<< (nI (o) &&& 31)))))) 21 (upd ((va_up (va_up Yo 29 (upd (Yo 29) (mn) ((Yo 29 (mn) ||| (nI 1 <<< (nI 0 &&& 31)))))) 21 (upd ((va_up Yo 29 (upd (Yo 29) (mn) ((Yo 29 (mn) ||| (nI 1 <<< (nI 0 &&& 31)))))) 21) (126 * (mn) + 6 * (0) + 0) (((va_up Yo 29 (upd (Yo 29) (mn) ((Yo 29 (mn) ||| (nI 1 <<< (nI 0 &&& 31)))))) 21 (126 * (mn) + 6 * (0) + 0) ||| (nI 1 <<< (nI (o) &&& 31)))))) 21) (126 * (mn) + 6 * (0) + 1) (((va_up (va_up Yo 29 (upd (Yo 29) (mn) ((Yo 29 (mn) ||| (nI 1 <<< (nI 0 &&& 31)))))) 21 (upd ((va_up Yo 29 (upd (Yo 29) (mn) ((Yo 29 (mn) ||| (nI 1 <<< (nI 0 &&& 31)))))) 21) (126 * (mn) + 6 * (0) + 0) (((va_up Yo 29 (upd (Yo 29) (mn) ((Yo 29 (mn) ||| (nI 1 <<< (nI 0 &&& 31)))))) 21 (126 * (mn) + 6 * (0) + 0) ||| (nI 1 <<< (nI (o) &&& 31)))))) 21 (126 * (mn) + 6 * (0) + 1) ||| X 20 (126 * (ne X 8 i) + 6 * (c) + ne X 13 i))))) 21 (126 * (mn) + 6 * (0) + 2) ||| X 20 (126 * (ne X 8 i) + 6 * (c) + ne X 14 i))))) 21 (upd ((va_up (va_up (va_up (va_up Yo 29 (upd (Yo 29) (mn) ((Yo 29 (mn) ||| (nI 1 <<< (nI 0 &&& 31)))))) 21 (upd ((va_up Yo 29 (upd (Yo 29) (mn) ((Yo 29 (mn) ||| (nI 1 <<< (nI 0 &&& 31)))))) 21) (126 * (mn) + 6 * (0) + 0) (((va_up Yo 29 (upd (Yo 29) (mn) ((Yo 29 (mn) ||| (nI 1 <<< (nI 0 &&& 31)))))) 21 (126 * (mn) + 6 * (0) + 0) ||| (nI 1 <<< (nI (o) &&& 31)))))) 21 (upd ((va_up (va_up Yo 29 (upd (Yo 29) (mn) ((Yo 29 (mn) ||| (nI 1 <<< (nI 0 &&& 31)))))) 21 (upd ((va_up Yo 29 (upd (Yo 29) (mn) ((Yo 29 (mn) ||| (nI 1 <<< (nI 0 &&& 31)))))) 21) (126 * (mn) + 6 * (0) + 0) (((va_up Yo 29 (upd (Yo 29) (mn) ((Yo 29 (mn) ||| (nI 1 <<< (nI 0 &&& 31)))))) 21 (126 * (mn) + 6 * (0) + 0) ||| (nI 1 <<< (nI (o) &&& 31)))))) 21) (126 * (mn) + 6 * (0) + 1) (((va_up (va_up Yo 29 (upd (Yo 29) (mn) ((Yo 29 (mn) ||| (nI 1 <<< (nI 0 &&& 31)))))) 21 (upd ((va_up Yo 29 (upd (Yo 29) (mn) ((Yo 29 (mn) ||| (nI 1 <<< (nI 0 &&& 31)))))) 21) (126 * (mn) + 6 * (0) + 0) (((va_up Yo 29 (upd (Yo 29) (mn) ((Yo 29 (mn) ||| (nI 1 <<< (nI 0 &&& 31)))))) 21 (126 * (mn) + 6 * (0) + 0) ||| (nI 1 <<< (nI (o) &&& 31)))))) 21 (126 * (mn) + 6 * (0) + 1) ||| X 20 (126 * (ne X 8 i) + 6 * (c) + ne X 13 i))))) 21 (upd ((va_up (va_up (va_up Yo 29 (upd (Yo 29) (mn) ((Yo 29 (mn) ||| (nI 1 <<< (nI 0 &&& 31)))))) 21 (upd ((va_up Yo 29 (upd (Yo 29) (mn) ((Yo 29 (mn) ||| (nI 1 <<< (nI 0 &&& 31)))))) 21) (126 * (mn) + 6 * (0) + 0) (((va_up Yo 29 (upd (Yo 29) (mn) ((Yo 29 (mn) ||| (nI 1 <<< (nI 0 &&& 31)))))) 21 (126 * (mn) + 6 * (0) + 0) ||| (nI 1 <<< (nI (o) &&& 31)))))) 21 (upd ((va_up (va_up Yo 29 (upd (Yo 29) (mn) ((Yo 29 (mn) ||| (nI 1 <<< (nI 0 &&& 31)))))) 21 (upd ((va_up Yo 29 (upd (Yo 29) (mn) ((Yo 29 (mn) ||| (nI 1 <<< (nI 0 &&& 31)))))) 21) (126 * (mn) + 6 * (0) + 0) (((va_up Yo 29 (upd (Yo 29) (mn) ((Yo 29 (mn) ||| (nI 1 <<< (nI 0 &&& 31)))))) 21 (126 * (mn) + 6 * (0) + 0) ||| (nI 1 <<< (nI (o) &&& 31)))))) 21) (126 * (mn) + 6 * (0) + 1) (((va_up (va_up Yo 29 (upd (Yo 29) (mn) ((Yo 29 (mn) ||| (nI 1 <<< (nI 0 &&& 31)))))) 21 (upd ((va_up Yo 29 (upd (Yo 29) (mn) ((Yo 29 (mn) ||| (nI 1 <<< (nI 0 &&& 31)))))) 21) (126 * (mn) + 6 * (0) + 0) (((va_up Yo 29 (upd (Yo 29) (mn) ((Yo 29 (mn) ||| (nI 1 <<< (nI 0 &&& 31)))))) 21 (126 * (mn) + 6 * (0) + 0) ||| (nI 1 <<< (nI (o) &&& 31)))))) 21 (126 * (mn) + 6 * (0) + 1) ||| X 20 (126 * (ne X 8 i) + 6 * (c) + ne X 13 i))))) 21) (126 * (mn) + 6 * (0) + 2) (((va_up (va_up (va_up Yo 29 (upd (Yo 29) (mn) ((Yo 29 (mn) ||| (nI 1 <<< (nI 0 &&& 31)))))) 21 (upd ((va_up Yo 29 (upd (Yo 29) (mn) ((Yo 29 (mn) ||| (nI 1 <<< (nI 0 &&& 31)))))) 21) (126 * (mn) + 6 * (0) + 0) (((va_up Yo 29 (upd (Yo 29) (mn) ((Yo 29 (mn) ||| (nI 1 <<< (nI 0 &&& 31)))))) 21 (126 * (mn) + 6 * (0) + 0) ||| (nI 1 <<< (nI (o) &&& 31)))))) 21 (upd ((va_up (va_up Yo 29 (upd (Yo 29) (mn) ((Yo 29 (mn) ||| (nI 1 <<< (nI 0 &&& 31)))))) 21 (upd ((va_up Yo 29 (upd (Yo 29) (mn) ((Yo 29 (mn) ||| (nI 1 <<< (nI 0 &&& 31)))))) 21) (126 * (mn) + 6 * (0) + 0) (((va_up Yo 29 (upd (Yo 29) (mn) ((Yo 29 (mn) ||| (nI 1 <<< (nI 0 &&& 31)))))) 21 (126 * (mn) + 6 * (0) + 0) ||| (nI 1 <<< (nI (o) &&& 31)))))) 21) (126 * (mn) + 6 * (0) + 1) (((va_up (va_up Yo 29 (upd (Yo 29) (mn) ((Yo 29 (mn) ||| (nI 1 <<< (nI 0 &&& 31)))))) 21 (upd ((va_up Yo 29 (upd (Yo 29) (mn) ((Yo 29 (mn) ||| (nI 1 <<< (nI 0 &&& 31)))))) 21) (126 * (mn) + 6 * (0) + 0) (((va_up Yo 29 (upd (Yo 29) (mn) ((Yo 29 (mn) ||| (nI 1 <<< (nI 0 &&& 31)))))) 21 (126 * (mn) + 6 * (0) + 0) ||| (nI 1 <<< (nI (o) &&& 31)))))) 21 (126 * (mn) + 6 * (0) + 1) ||| X 20 (126 * (ne X 8 i) + 6 * (c) + ne X 13 i))))) 21 (126 * (mn) + 6 * (0) + 2) ||| X 20 (126 * (ne X 8 i) + 6 * (c) + ne X 14 i))))) 21) (to) (((va_up (va_up (va_up (va_up Yo 29 (upd (Yo 29) (mn) ((Yo 29 (mn) ||| (nI 1 <<< (nI 0 &&& 31)))))) 21 (upd ((va_up Yo 29 (upd (Yo 29) (mn) ((Yo 29 (mn) ||| (nI 1 <<< (nI 0 &&& 31)))))) 21) (126 * (mn) + 6 * (0) + 0) (((va_up Yo 29 (upd (Yo 29) (mn) ((Yo 29 (mn) ||| (nI 1 <<< (nI 0 &&& 31)))))) 21 (126 * (mn) + 6 * (0) + 0) ||| (nI 1 <<< (nI (o) &&& 31)))))) 21 (upd ((va_up (va_up Yo 29 (upd (Yo 29) (mn) ((Yo 29 (mn) ||| (nI 1 <<< (nI 0 &&& 31)))))) 21 (upd ((va_up Yo 29 (upd (Yo 29) (mn) ((Yo 29 (mn) ||| (nI 1 <<< (nI 0 &&& 31)))))) 21) (126 * (mn) + 6 * (0) + 0) (((va_up Yo 29 (upd (Yo 29) (mn) ((Yo 29 (mn) ||| (nI 1 <<< (nI 0 &&& 31)))))) 21 (126 * (mn) + 6 * (0) + 0) ||| (nI 1 <<< (nI (o) &&& 31)))))) 21) (126 * (mn) + 6 * (0) + 1) (((va_up (va_up Yo 29 (upd (Yo 29) (mn) ((Yo 29 (mn) ||| (nI 1 <<< (nI 0 &&& 31)))))) 21 (upd ((va_up Yo 29 (upd (Yo 29) (mn) ((Yo 29 (mn) ||| (nI 1 <<< (nI 0 &&& 31)))))) 21) (126 * (mn) + 6 * (0) + 0) (((va_up Yo 29 (upd (Yo 29) (mn) ((Yo 29 (mn) ||| (nI 1 <<< (nI 0 &&& 31)))))) 21 (126 * (mn) + 6 * (0) + 0) ||| (nI 1 <<< (nI (o) &&& 31)))))) 21 (126 * (mn) + 6 * (0) + 1) ||| X 20 (126 * (ne X 8 i) + 6 * (c) + ne X 13 i))))) 21 (upd ((va_up (va_up (va_up Yo 29 (upd (Yo 29) (mn) ((Yo 29 (mn) ||| (nI 1 <<< (nI 0 &&& 31)))))) 21 (upd ((va_up Yo 29 (upd (Yo 29) (mn) ((Yo 29 (mn) ||| (nI 1 <<< (nI 0 &&& 31)))))) 21) (126 * (mn) + 6 * (0) + 0) (((va_up Yo 29 (upd (Yo 29) (mn) ((Yo 29 (mn) ||| (nI 1 <<< (nI 0 &&& 31)))))) 21 (126 * (mn) + 6 * (0) + 0) ||| (nI 1 <<< (nI (o) &&& 31)))))) 21 (upd ((va_up (va_up Yo 29 (upd (Yo 29) (mn) ((Yo 29 (mn) ||| (nI 1 <<< (nI 0 &&& 31)))))) 21 (upd ((va_up Yo 29 (upd (Yo 29) (mn) ((Yo 29 (mn) ||| (nI 1 <<< (nI 0 &&& 31)))))) 21) (126 * (mn) + 6 * (0) + 0) (((va_up Yo 29 (upd (Yo 29) (mn) ((Yo 29 (mn) ||| (nI 1 <<< (nI 0 &&& 31)))))) 21 (126 * (mn) + 6 * (0) + 0) ||| (nI 1 <<< (nI (o) &&& 31)))))) 21) (126 * (mn) + 6 * (0) + 1) (((va_up (va_up Yo 29 (upd (Yo 29) (mn) ((Yo 29 (mn) ||| (nI 1 <<< (nI 0 &&& 31)))))) 21 (upd ((va_up Yo 29 (upd (Yo 29) (mn) ((Yo 29 (mn) ||| (nI 1 <<< (nI 0 &&& 31)))))) 21) (126 * (mn) + 6 * (0) + 0) (((va_up Yo 29 (upd (Yo 29) (mn) ((Yo 29 (mn) ||| (nI 1 <<< (nI 0 &&& 31)))))) 21 (126 * (mn) + 6 * (0) + 0) ||| (nI 1 <<< (nI (o) &&& 31)))))) 21 (126 * (mn) + 6 * (0) + 1) ||| X 20 (126 * (ne X 8 i) + 6 * (c) + ne X 13 i))))) 21) (126 * (mn) + 6 * (0) + 2) (((va_up (va_up (va_up Yo 29 (upd (Yo 29) (mn) ((Yo 29 (mn) ||| (nI 1 <<< (nI 0 &&& 31)))))) 21 (upd ((va_up Yo 29 (upd (Yo 29) (mn) ((Yo 29 (mn) ||| (nI 1 <<< (nI 0 &&& 31)))))) 21) (126 * (mn) + 6 * (0) + 0) (((va_up Yo 29 (upd (Yo 29) (mn) ((Yo 29 (mn) ||| (nI 1 <<< (nI 0 &&& 31)))))) 21 (126 * (mn) + 6 * (0) + 0) ||| (nI 1 <<< (nI (o) &&& 31)))))) 21 (upd ((va_up (va_up Yo 29 (upd (Yo 29) (mn) ((Yo 29 (mn) ||| (nI 1 <<< (nI 0 &&& 31)))))) 21 (upd ((va_up Yo 29 (upd (Yo 29) (mn) ((Yo 29 (mn) ||| (nI 1 <<< (nI 0 &&& 31)))))) 21) (126 * (mn) + 6 * (0) + 0) (((va_up Yo 29 (upd (Yo 29) (mn) ((Yo 29 (mn) ||| (nI 1 <<< (nI 0 &&& 31)))))) 21 (126 * (mn) + 6 * (0) + 0) ||| (nI 1 <<< (nI (o) &&& 31)))))) 21) (126 * (mn) + 6 * (0) + 1) (((va_up (va_up Yo 29 (upd (Yo 29) (mn) ((Yo 29 (mn) ||| (nI 1 <<< (nI 0 &&& 31)))))) 21 (upd ((va_up Yo 29 (upd (Yo 29) (mn) ((Yo 29 (mn) ||| (nI 1 <<< (nI 0 &&& 31)))))) 21) (126 * (mn) + 6 * (0) + 0) (((va_up Yo 29 (upd (Yo 29) (mn) ((Yo 29 (mn) ||| (nI 1 <<< (nI 0 &&& 31)))))) 21 (126 * (mn) + 6 * (0) + 0) ||| (nI 1 <<< (nI (o) &&& 31)))))) 21 (126 * (mn) + 6 * (0) + 1) ||| X 20 (126 * (ne X 8 i) + 6 * (c) + ne X 13 i))))) 21 (126 * (mn) + 6 * (0) + 2) ||| X 20 (126 * (ne X 8 i) + 6 * (c) + ne X 14 i))))) 21 (to) ||| X 20 (126 * (mn) + 6 * (0) + 5))))) := by
            unfold tCa1
            rw [if_pos (show tb q o = true from decide_eq_true c65), if_pos c93, em, nI_clamp (show mn < 2 ^ 31 by omega)]
            unfold tCx
            rw [if_pos c103]
            try rfl
          rw [e2] at iho
          exact iho
      · refine z_goto (tgt := 209) d_M_call_96 (by decide) ?_
        refine z_iinc (v := nI (o + 1)) d_M_call_209 (zlt rfl) rfl (zinc _) ?_
        refine z_goto (tgt := 49) d_M_call_212 (by decide) ?_
        refine z_fl 8 ?_
        have e2 : tCa1 X i c q to o Yo = Yo := by
          unfold tCa1
          rw [if_pos (show tb q o = true from decide_eq_true c65), if_neg c93]
          try rfl
        rw [e2] at iho
        exact iho
  show zG (zcx l E b_M_call "PointsToRoundsModel" 10 (none) false rm_M_call (tp E A Y) sz (zPv (tp E A (zit (tCa1 X i c q to) (cn X 16) Y)))) 0 0 49 [some (.ref (A 44)), some (.int (nI (i))), some (.int (nI (c))), some (.int (q)), some (.int (nI (to))), some (.int (X 20 (126 * (ne X 8 i) + 6 * (c) + ne X 13 i))), some (.int (X 20 (126 * (ne X 8 i) + 6 * (c) + ne X 14 i))), some (.int (nI (cn X 16))), none, none] [] (tp E A (zit (fun o Y => tCa1 X i c q to o Y) (cn X 16) Y))
  have hEo := hTo _ (Nat.le_refl _)
  refine z_iload d_M_call_49 rfl ?_
  refine z_aload_n d_M_call_51 rfl ?_
  refine z_get fa_M_160 d_M_call_52 (tp_o hA) rfl ?_
  refine z_top ((congrFun (hEo 16 (by decide)) 0).trans h16) ?_
  refine z_icmp_ge (tgt := 215) d_M_call_55 (by decide) (fun c55 => ?_) (fun c55 => absurd (nI_le (Nat.le_refl _) (by omega)) c55)
  have c55n := (nI_leI (by omega) (by omega)).mp c55
  exact z_vret rfl d_M_call_215 (zlq rfl) (zlq rfl) (⟨rfl, rfl⟩)
abbrev rm_M_bring : Room := { frames := 3, cells := 0, slots := 0, locals := 76 }
set_option maxHeartbeats 4000000 in
set_option maxRecDepth 100000 in
theorem c_M_bring (l : Launch) (E : zE) {A : Nat → Nat} (hA : tmI A) {X : zSt} (hX : tInv X) {Y : zSt} (hY : tsm THN X Y) (i : Nat) (hi : i < cn X 7) (c : Nat) (hc : c < 21) : zM l E y_M_bring b_M_bring 7 (none) rm_M_bring [.ref (A 44), .int (nI i), .int (nI c)] (tp E A Y) (zPv (tp E A (tBr X i c Y))) := by
  refine zM_w (by decide +kernel) rfl rfl (fun sz => ?_)
  obtain ⟨⟨⟨h0, b0⟩, ⟨h2, b2⟩, ⟨h4, b4⟩, ⟨h7, b7⟩, ⟨h16, b16⟩⟩, h18, h19, hp, hf, hs, hst⟩ := id hX
  obtain ⟨⟨s8, l8⟩, ⟨s9, l9⟩, ⟨s10, l10, l10a⟩, ⟨s11, l11, l11a, l11b⟩, s12, s13, s15⟩ := hst i hi
  rcases (show ne X 9 i = 0 ∨ ne X 9 i = 1 ∨ ne X 9 i = 2 ∨ ne X 9 i = 3 ∨ ne X 9 i = 4 ∨ ne X 9 i = 5 ∨ ne X 9 i = 6 ∨ ne X 9 i = 7 ∨ ne X 9 i = 8 ∨ ne X 9 i = 9 by omega) with e | e | e | e | e | e | e | e | e | e
  · have r15 := s15 e
    have r15b := r15.2
    refine z_aload_n d_M_bring_0 rfl ?_
    refine z_get fa_M_22 d_M_bring_1 (tp_o hA) rfl ?_
    refine z_iload_n d_M_bring_4 rfl ?_
    refine z_iald (i) d_M_bring_5 (tp_a hA 8 rfl) rfl (show i < 60 from by omega) (by decide) ?_
    refine z_top ((congrFun (hY 8 (by decide)) (i)).trans s8) ?_
    refine z_istore_n d_M_bring_6 (zlt rfl) ?_
    refine z_iload_n d_M_bring_7 rfl ?_
    refine z_iload_n d_M_bring_8 rfl ?_
    refine z_aload_n d_M_bring_9 rfl ?_
    refine z_get fa_M_28 d_M_bring_10 (tp_o hA) rfl ?_
    refine z_iload_n d_M_bring_13 rfl ?_
    refine z_iald (i) d_M_bring_14 (tp_a hA 10 rfl) rfl (show i < 60 from by omega) (by decide) ?_
    refine z_top ((congrFun (hY 10 (by decide)) (i)).trans s10) ?_
    refine z_cSi (c_M_nameAt l E _ (ne X 8 i) (c) (ne X 10 i)) cb_M_nameAt cs_M_nameAt ln_M_166 rfl rfl (zlq rfl) rfl (zlq rfl) (zlq rfl) d_M_bring_15 ?_
    refine z_istore d_M_bring_18 (zlt rfl) ?_
    refine z_aload_n d_M_bring_20 rfl ?_
    refine z_get fa_M_25 d_M_bring_21 (tp_o hA) rfl ?_
    refine z_iload_n d_M_bring_24 rfl ?_
    refine z_iald (i) d_M_bring_25 (tp_a hA 9 rfl) rfl (show i < 60 from by omega) (by decide) ?_
    refine z_top ((congrFun (hY 9 (by decide)) (i)).trans (s9.trans (by rw [e]))) ?_
    refine z_bipush d_M_bring_26 bp_6 ?_
    refine z_icmp_ne (tgt := 35) d_M_bring_28 (by decide) (fun c28 => ?_) (fun c28 => absurd c28 (by decide +kernel))
    refine z_aload_n d_M_bring_35 rfl ?_
    refine z_get fa_M_49 d_M_bring_36 (tp_o hA) rfl ?_
    refine z_iload d_M_bring_39 rfl ?_
    refine z_iald (126 * (ne X 8 i) + 6 * (c) + ne X 10 i) d_M_bring_41 (tp_a hA 20 rfl) rfl (show 126 * (ne X 8 i) + 6 * (c) + ne X 10 i < 1260 from by omega) (by decide) ?_
    refine z_top (congrFun (hY 20 (by decide)) (126 * (ne X 8 i) + 6 * (c) + ne X 10 i)) ?_
    refine z_istore d_M_bring_42 (zlt rfl) ?_
    refine z_aload_n d_M_bring_44 rfl ?_
    refine z_get fa_M_25 d_M_bring_45 (tp_o hA) rfl ?_
    refine z_iload_n d_M_bring_48 rfl ?_
    refine z_iald (i) d_M_bring_49 (tp_a hA 9 rfl) rfl (show i < 60 from by omega) (by decide) ?_
    refine z_top ((congrFun (hY 9 (by decide)) (i)).trans (s9.trans (by rw [e]))) ?_
    refine z_if_eq (tgt := 63) d_M_bring_50 (by decide) (fun c50 => ?_) (fun c50 => absurd (by decide +kernel) c50)
    refine z_iconst d_M_bring_63 ic_0 ?_
    refine z_goto (tgt := 83) d_M_bring_64 (by decide) ?_
    refine z_istore d_M_bring_83 (zlt rfl) ?_
    refine z_aload_n d_M_bring_85 rfl ?_
    refine z_get fa_M_25 d_M_bring_86 (tp_o hA) rfl ?_
    refine z_iload_n d_M_bring_89 rfl ?_
    refine z_iald (i) d_M_bring_90 (tp_a hA 9 rfl) rfl (show i < 60 from by omega) (by decide) ?_
    refine z_top ((congrFun (hY 9 (by decide)) (i)).trans (s9.trans (by rw [e]))) ?_
    refine z_tabIn (tgt := 136) d_M_bring_91 (by decide +kernel) (by decide +kernel) (show _ = some 45 by decide +kernel) (by decide) ?_
    refine z_aload_n d_M_bring_136 rfl ?_
    refine z_get fa_M_52 d_M_bring_137 (tp_o hA) rfl ?_
    refine z_iload d_M_bring_140 rfl ?_
    refine z_dup2 d_M_bring_142 rfl rfl ?_
    refine z_iald (126 * (ne X 8 i) + 6 * (c) + ne X 10 i) d_M_bring_143 (tp_a hA 21 rfl) rfl (show 126 * (ne X 8 i) + 6 * (c) + ne X 10 i < 1260 from by omega) (by decide) ?_
    refine z_iconst d_M_bring_144 ic_1 ?_
    refine z_aload_n d_M_bring_145 rfl ?_
    refine z_get fa_M_43 d_M_bring_146 (tp_o hA) rfl ?_
    refine z_iload_n d_M_bring_149 rfl ?_
    refine z_iald (i) d_M_bring_150 (tp_a hA 15 rfl) rfl (show i < 60 from by omega) (by decide) ?_
    refine z_top ((congrFun (hY 15 (by decide)) (i)).trans r15.1) ?_
    refine z_ishl d_M_bring_151 ?_
    refine z_ior d_M_bring_152 ?_
    refine t_ast (kf := 21) (j := 126 * (ne X 8 i) + 6 * (c) + ne X 10 i) d_M_bring_153 hA rfl rfl (show 126 * (ne X 8 i) + 6 * (c) + ne X 10 i < 1260 from by omega) (by decide) ?_
    refine z_goto (tgt := 239) d_M_bring_154 (by decide) ?_
    exact z_vret rfl d_M_bring_239 (zlq rfl) (zlq rfl) (⟨rfl, by unfold tBr; rw [e]; rfl⟩)
  · have q6 := l11b (by omega) (by omega)
    refine z_aload_n d_M_bring_0 rfl ?_
    refine z_get fa_M_22 d_M_bring_1 (tp_o hA) rfl ?_
    refine z_iload_n d_M_bring_4 rfl ?_
    refine z_iald (i) d_M_bring_5 (tp_a hA 8 rfl) rfl (show i < 60 from by omega) (by decide) ?_
    refine z_top ((congrFun (hY 8 (by decide)) (i)).trans s8) ?_
    refine z_istore_n d_M_bring_6 (zlt rfl) ?_
    refine z_iload_n d_M_bring_7 rfl ?_
    refine z_iload_n d_M_bring_8 rfl ?_
    refine z_aload_n d_M_bring_9 rfl ?_
    refine z_get fa_M_28 d_M_bring_10 (tp_o hA) rfl ?_
    refine z_iload_n d_M_bring_13 rfl ?_
    refine z_iald (i) d_M_bring_14 (tp_a hA 10 rfl) rfl (show i < 60 from by omega) (by decide) ?_
    refine z_top ((congrFun (hY 10 (by decide)) (i)).trans s10) ?_
    refine z_cSi (c_M_nameAt l E _ (ne X 8 i) (c) (ne X 10 i)) cb_M_nameAt cs_M_nameAt ln_M_166 rfl rfl (zlq rfl) rfl (zlq rfl) (zlq rfl) d_M_bring_15 ?_
    refine z_istore d_M_bring_18 (zlt rfl) ?_
    refine z_aload_n d_M_bring_20 rfl ?_
    refine z_get fa_M_25 d_M_bring_21 (tp_o hA) rfl ?_
    refine z_iload_n d_M_bring_24 rfl ?_
    refine z_iald (i) d_M_bring_25 (tp_a hA 9 rfl) rfl (show i < 60 from by omega) (by decide) ?_
    refine z_top ((congrFun (hY 9 (by decide)) (i)).trans (s9.trans (by rw [e]))) ?_
    refine z_bipush d_M_bring_26 bp_6 ?_
    refine z_icmp_ne (tgt := 35) d_M_bring_28 (by decide) (fun c28 => ?_) (fun c28 => absurd c28 (by decide +kernel))
    refine z_aload_n d_M_bring_35 rfl ?_
    refine z_get fa_M_49 d_M_bring_36 (tp_o hA) rfl ?_
    refine z_iload d_M_bring_39 rfl ?_
    refine z_iald (126 * (ne X 8 i) + 6 * (c) + ne X 10 i) d_M_bring_41 (tp_a hA 20 rfl) rfl (show 126 * (ne X 8 i) + 6 * (c) + ne X 10 i < 1260 from by omega) (by decide) ?_
    refine z_top (congrFun (hY 20 (by decide)) (126 * (ne X 8 i) + 6 * (c) + ne X 10 i)) ?_
    refine z_istore d_M_bring_42 (zlt rfl) ?_
    refine z_aload_n d_M_bring_44 rfl ?_
    refine z_get fa_M_25 d_M_bring_45 (tp_o hA) rfl ?_
    refine z_iload_n d_M_bring_48 rfl ?_
    refine z_iald (i) d_M_bring_49 (tp_a hA 9 rfl) rfl (show i < 60 from by omega) (by decide) ?_
    refine z_top ((congrFun (hY 9 (by decide)) (i)).trans (s9.trans (by rw [e]))) ?_
    refine z_if_eq (tgt := 63) d_M_bring_50 (by decide) (fun c50 => absurd c50 (by decide +kernel)) (fun c50 => ?_)
    refine z_aload_n d_M_bring_53 rfl ?_
    refine z_get fa_M_25 d_M_bring_54 (tp_o hA) rfl ?_
    refine z_iload_n d_M_bring_57 rfl ?_
    refine z_iald (i) d_M_bring_58 (tp_a hA 9 rfl) rfl (show i < 60 from by omega) (by decide) ?_
    refine z_top ((congrFun (hY 9 (by decide)) (i)).trans (s9.trans (by rw [e]))) ?_
    refine z_iconst d_M_bring_59 ic_5 ?_
    refine z_icmp_ne (tgt := 67) d_M_bring_60 (by decide) (fun c60 => ?_) (fun c60 => absurd c60 (by decide +kernel))
    refine z_aload_n d_M_bring_67 rfl ?_
    refine z_get fa_M_49 d_M_bring_68 (tp_o hA) rfl ?_
    refine z_iload_n d_M_bring_71 rfl ?_
    refine z_iload_n d_M_bring_72 rfl ?_
    refine z_aload_n d_M_bring_73 rfl ?_
    refine z_get fa_M_31 d_M_bring_74 (tp_o hA) rfl ?_
    refine z_iload_n d_M_bring_77 rfl ?_
    refine z_iald (i) d_M_bring_78 (tp_a hA 11 rfl) rfl (show i < 60 from by omega) (by decide) ?_
    refine z_top ((congrFun (hY 11 (by decide)) (i)).trans s11) ?_
    refine z_cSi (c_M_nameAt l E _ (ne X 8 i) (c) (ne X 11 i)) cb_M_nameAt cs_M_nameAt ln_M_166 rfl rfl (zlq rfl) rfl (zlq rfl) (zlq rfl) d_M_bring_79 ?_
    refine z_iald (126 * (ne X 8 i) + 6 * (c) + ne X 11 i) d_M_bring_82 (tp_a hA 20 rfl) rfl (show 126 * (ne X 8 i) + 6 * (c) + ne X 11 i < 1260 from by omega) (by decide) ?_
    refine z_top (congrFun (hY 20 (by decide)) (126 * (ne X 8 i) + 6 * (c) + ne X 11 i)) ?_
    refine z_istore d_M_bring_83 (zlt rfl) ?_
    refine z_aload_n d_M_bring_85 rfl ?_
    refine z_get fa_M_25 d_M_bring_86 (tp_o hA) rfl ?_
    refine z_iload_n d_M_bring_89 rfl ?_
    refine z_iald (i) d_M_bring_90 (tp_a hA 9 rfl) rfl (show i < 60 from by omega) (by decide) ?_
    refine z_top ((congrFun (hY 9 (by decide)) (i)).trans (s9.trans (by rw [e]))) ?_
    refine z_tabIn (tgt := 157) d_M_bring_91 (by decide +kernel) (by decide +kernel) (show _ = some 66 by decide +kernel) (by decide) ?_
    refine z_aload_n d_M_bring_157 rfl ?_
    refine z_get fa_M_52 d_M_bring_158 (tp_o hA) rfl ?_
    refine z_iload d_M_bring_161 rfl ?_
    refine z_dup2 d_M_bring_163 rfl rfl ?_
    refine z_iald (126 * (ne X 8 i) + 6 * (c) + ne X 10 i) d_M_bring_164 (tp_a hA 21 rfl) rfl (show 126 * (ne X 8 i) + 6 * (c) + ne X 10 i < 1260 from by omega) (by decide) ?_
    refine z_iload d_M_bring_165 rfl ?_
    refine z_ior d_M_bring_167 ?_
    refine t_ast (kf := 21) (j := 126 * (ne X 8 i) + 6 * (c) + ne X 10 i) d_M_bring_168 hA rfl rfl (show 126 * (ne X 8 i) + 6 * (c) + ne X 10 i < 1260 from by omega) (by decide) ?_
    refine z_goto (tgt := 239) d_M_bring_169 (by decide) ?_
    exact z_vret rfl d_M_bring_239 (zlq rfl) (zlq rfl) (⟨rfl, by unfold tBr; rw [e]; rfl⟩)
  · have q6 := l11b (by omega) (by omega)
    refine z_aload_n d_M_bring_0 rfl ?_
    refine z_get fa_M_22 d_M_bring_1 (tp_o hA) rfl ?_
    refine z_iload_n d_M_bring_4 rfl ?_
    refine z_iald (i) d_M_bring_5 (tp_a hA 8 rfl) rfl (show i < 60 from by omega) (by decide) ?_
    refine z_top ((congrFun (hY 8 (by decide)) (i)).trans s8) ?_
    refine z_istore_n d_M_bring_6 (zlt rfl) ?_
    refine z_iload_n d_M_bring_7 rfl ?_
    refine z_iload_n d_M_bring_8 rfl ?_
    refine z_aload_n d_M_bring_9 rfl ?_
    refine z_get fa_M_28 d_M_bring_10 (tp_o hA) rfl ?_
    refine z_iload_n d_M_bring_13 rfl ?_
    refine z_iald (i) d_M_bring_14 (tp_a hA 10 rfl) rfl (show i < 60 from by omega) (by decide) ?_
    refine z_top ((congrFun (hY 10 (by decide)) (i)).trans s10) ?_
    refine z_cSi (c_M_nameAt l E _ (ne X 8 i) (c) (ne X 10 i)) cb_M_nameAt cs_M_nameAt ln_M_166 rfl rfl (zlq rfl) rfl (zlq rfl) (zlq rfl) d_M_bring_15 ?_
    refine z_istore d_M_bring_18 (zlt rfl) ?_
    refine z_aload_n d_M_bring_20 rfl ?_
    refine z_get fa_M_25 d_M_bring_21 (tp_o hA) rfl ?_
    refine z_iload_n d_M_bring_24 rfl ?_
    refine z_iald (i) d_M_bring_25 (tp_a hA 9 rfl) rfl (show i < 60 from by omega) (by decide) ?_
    refine z_top ((congrFun (hY 9 (by decide)) (i)).trans (s9.trans (by rw [e]))) ?_
    refine z_bipush d_M_bring_26 bp_6 ?_
    refine z_icmp_ne (tgt := 35) d_M_bring_28 (by decide) (fun c28 => ?_) (fun c28 => absurd c28 (by decide +kernel))
    refine z_aload_n d_M_bring_35 rfl ?_
    refine z_get fa_M_49 d_M_bring_36 (tp_o hA) rfl ?_
    refine z_iload d_M_bring_39 rfl ?_
    refine z_iald (126 * (ne X 8 i) + 6 * (c) + ne X 10 i) d_M_bring_41 (tp_a hA 20 rfl) rfl (show 126 * (ne X 8 i) + 6 * (c) + ne X 10 i < 1260 from by omega) (by decide) ?_
    refine z_top (congrFun (hY 20 (by decide)) (126 * (ne X 8 i) + 6 * (c) + ne X 10 i)) ?_
    refine z_istore d_M_bring_42 (zlt rfl) ?_
    refine z_aload_n d_M_bring_44 rfl ?_
    refine z_get fa_M_25 d_M_bring_45 (tp_o hA) rfl ?_
    refine z_iload_n d_M_bring_48 rfl ?_
    refine z_iald (i) d_M_bring_49 (tp_a hA 9 rfl) rfl (show i < 60 from by omega) (by decide) ?_
    refine z_top ((congrFun (hY 9 (by decide)) (i)).trans (s9.trans (by rw [e]))) ?_
    refine z_if_eq (tgt := 63) d_M_bring_50 (by decide) (fun c50 => absurd c50 (by decide +kernel)) (fun c50 => ?_)
    refine z_aload_n d_M_bring_53 rfl ?_
    refine z_get fa_M_25 d_M_bring_54 (tp_o hA) rfl ?_
    refine z_iload_n d_M_bring_57 rfl ?_
    refine z_iald (i) d_M_bring_58 (tp_a hA 9 rfl) rfl (show i < 60 from by omega) (by decide) ?_
    refine z_top ((congrFun (hY 9 (by decide)) (i)).trans (s9.trans (by rw [e]))) ?_
    refine z_iconst d_M_bring_59 ic_5 ?_
    refine z_icmp_ne (tgt := 67) d_M_bring_60 (by decide) (fun c60 => ?_) (fun c60 => absurd c60 (by decide +kernel))
    refine z_aload_n d_M_bring_67 rfl ?_
    refine z_get fa_M_49 d_M_bring_68 (tp_o hA) rfl ?_
    refine z_iload_n d_M_bring_71 rfl ?_
    refine z_iload_n d_M_bring_72 rfl ?_
    refine z_aload_n d_M_bring_73 rfl ?_
    refine z_get fa_M_31 d_M_bring_74 (tp_o hA) rfl ?_
    refine z_iload_n d_M_bring_77 rfl ?_
    refine z_iald (i) d_M_bring_78 (tp_a hA 11 rfl) rfl (show i < 60 from by omega) (by decide) ?_
    refine z_top ((congrFun (hY 11 (by decide)) (i)).trans s11) ?_
    refine z_cSi (c_M_nameAt l E _ (ne X 8 i) (c) (ne X 11 i)) cb_M_nameAt cs_M_nameAt ln_M_166 rfl rfl (zlq rfl) rfl (zlq rfl) (zlq rfl) d_M_bring_79 ?_
    refine z_iald (126 * (ne X 8 i) + 6 * (c) + ne X 11 i) d_M_bring_82 (tp_a hA 20 rfl) rfl (show 126 * (ne X 8 i) + 6 * (c) + ne X 11 i < 1260 from by omega) (by decide) ?_
    refine z_top (congrFun (hY 20 (by decide)) (126 * (ne X 8 i) + 6 * (c) + ne X 11 i)) ?_
    refine z_istore d_M_bring_83 (zlt rfl) ?_
    refine z_aload_n d_M_bring_85 rfl ?_
    refine z_get fa_M_25 d_M_bring_86 (tp_o hA) rfl ?_
    refine z_iload_n d_M_bring_89 rfl ?_
    refine z_iald (i) d_M_bring_90 (tp_a hA 9 rfl) rfl (show i < 60 from by omega) (by decide) ?_
    refine z_top ((congrFun (hY 9 (by decide)) (i)).trans (s9.trans (by rw [e]))) ?_
    refine z_tabIn (tgt := 228) d_M_bring_91 (by decide +kernel) (by decide +kernel) (show _ = some 137 by decide +kernel) (by decide) ?_
    refine z_aload_n d_M_bring_228 rfl ?_
    refine z_iload_n d_M_bring_229 rfl ?_
    refine z_iload d_M_bring_230 rfl ?_
    refine z_iload d_M_bring_232 rfl ?_
    refine z_iload d_M_bring_234 rfl ?_
    refine z_cVv (c_M_bringEach l E hA hX hY i hi (by omega) _ _ _ (by omega)) cb_M_bringEach ci_M_bringEach ln_M_174 (tp_o hA) rfl rfl (zlq rfl) rfl (zlq rfl) (zlq rfl) d_M_bring_236 ?_
    exact z_vret rfl d_M_bring_239 (zlq rfl) (zlq rfl) (⟨rfl, by unfold tBr; rw [e]; rfl⟩)
  · have q6 := l11b (by omega) (by omega)
    refine z_aload_n d_M_bring_0 rfl ?_
    refine z_get fa_M_22 d_M_bring_1 (tp_o hA) rfl ?_
    refine z_iload_n d_M_bring_4 rfl ?_
    refine z_iald (i) d_M_bring_5 (tp_a hA 8 rfl) rfl (show i < 60 from by omega) (by decide) ?_
    refine z_top ((congrFun (hY 8 (by decide)) (i)).trans s8) ?_
    refine z_istore_n d_M_bring_6 (zlt rfl) ?_
    refine z_iload_n d_M_bring_7 rfl ?_
    refine z_iload_n d_M_bring_8 rfl ?_
    refine z_aload_n d_M_bring_9 rfl ?_
    refine z_get fa_M_28 d_M_bring_10 (tp_o hA) rfl ?_
    refine z_iload_n d_M_bring_13 rfl ?_
    refine z_iald (i) d_M_bring_14 (tp_a hA 10 rfl) rfl (show i < 60 from by omega) (by decide) ?_
    refine z_top ((congrFun (hY 10 (by decide)) (i)).trans s10) ?_
    refine z_cSi (c_M_nameAt l E _ (ne X 8 i) (c) (ne X 10 i)) cb_M_nameAt cs_M_nameAt ln_M_166 rfl rfl (zlq rfl) rfl (zlq rfl) (zlq rfl) d_M_bring_15 ?_
    refine z_istore d_M_bring_18 (zlt rfl) ?_
    refine z_aload_n d_M_bring_20 rfl ?_
    refine z_get fa_M_25 d_M_bring_21 (tp_o hA) rfl ?_
    refine z_iload_n d_M_bring_24 rfl ?_
    refine z_iald (i) d_M_bring_25 (tp_a hA 9 rfl) rfl (show i < 60 from by omega) (by decide) ?_
    refine z_top ((congrFun (hY 9 (by decide)) (i)).trans (s9.trans (by rw [e]))) ?_
    refine z_bipush d_M_bring_26 bp_6 ?_
    refine z_icmp_ne (tgt := 35) d_M_bring_28 (by decide) (fun c28 => ?_) (fun c28 => absurd c28 (by decide +kernel))
    refine z_aload_n d_M_bring_35 rfl ?_
    refine z_get fa_M_49 d_M_bring_36 (tp_o hA) rfl ?_
    refine z_iload d_M_bring_39 rfl ?_
    refine z_iald (126 * (ne X 8 i) + 6 * (c) + ne X 10 i) d_M_bring_41 (tp_a hA 20 rfl) rfl (show 126 * (ne X 8 i) + 6 * (c) + ne X 10 i < 1260 from by omega) (by decide) ?_
    refine z_top (congrFun (hY 20 (by decide)) (126 * (ne X 8 i) + 6 * (c) + ne X 10 i)) ?_
    refine z_istore d_M_bring_42 (zlt rfl) ?_
    refine z_aload_n d_M_bring_44 rfl ?_
    refine z_get fa_M_25 d_M_bring_45 (tp_o hA) rfl ?_
    refine z_iload_n d_M_bring_48 rfl ?_
    refine z_iald (i) d_M_bring_49 (tp_a hA 9 rfl) rfl (show i < 60 from by omega) (by decide) ?_
    refine z_top ((congrFun (hY 9 (by decide)) (i)).trans (s9.trans (by rw [e]))) ?_
    refine z_if_eq (tgt := 63) d_M_bring_50 (by decide) (fun c50 => absurd c50 (by decide +kernel)) (fun c50 => ?_)
    refine z_aload_n d_M_bring_53 rfl ?_
    refine z_get fa_M_25 d_M_bring_54 (tp_o hA) rfl ?_
    refine z_iload_n d_M_bring_57 rfl ?_
    refine z_iald (i) d_M_bring_58 (tp_a hA 9 rfl) rfl (show i < 60 from by omega) (by decide) ?_
    refine z_top ((congrFun (hY 9 (by decide)) (i)).trans (s9.trans (by rw [e]))) ?_
    refine z_iconst d_M_bring_59 ic_5 ?_
    refine z_icmp_ne (tgt := 67) d_M_bring_60 (by decide) (fun c60 => ?_) (fun c60 => absurd c60 (by decide +kernel))
    refine z_aload_n d_M_bring_67 rfl ?_
    refine z_get fa_M_49 d_M_bring_68 (tp_o hA) rfl ?_
    refine z_iload_n d_M_bring_71 rfl ?_
    refine z_iload_n d_M_bring_72 rfl ?_
    refine z_aload_n d_M_bring_73 rfl ?_
    refine z_get fa_M_31 d_M_bring_74 (tp_o hA) rfl ?_
    refine z_iload_n d_M_bring_77 rfl ?_
    refine z_iald (i) d_M_bring_78 (tp_a hA 11 rfl) rfl (show i < 60 from by omega) (by decide) ?_
    refine z_top ((congrFun (hY 11 (by decide)) (i)).trans s11) ?_
    refine z_cSi (c_M_nameAt l E _ (ne X 8 i) (c) (ne X 11 i)) cb_M_nameAt cs_M_nameAt ln_M_166 rfl rfl (zlq rfl) rfl (zlq rfl) (zlq rfl) d_M_bring_79 ?_
    refine z_iald (126 * (ne X 8 i) + 6 * (c) + ne X 11 i) d_M_bring_82 (tp_a hA 20 rfl) rfl (show 126 * (ne X 8 i) + 6 * (c) + ne X 11 i < 1260 from by omega) (by decide) ?_
    refine z_top (congrFun (hY 20 (by decide)) (126 * (ne X 8 i) + 6 * (c) + ne X 11 i)) ?_
    refine z_istore d_M_bring_83 (zlt rfl) ?_
    refine z_aload_n d_M_bring_85 rfl ?_
    refine z_get fa_M_25 d_M_bring_86 (tp_o hA) rfl ?_
    refine z_iload_n d_M_bring_89 rfl ?_
    refine z_iald (i) d_M_bring_90 (tp_a hA 9 rfl) rfl (show i < 60 from by omega) (by decide) ?_
    refine z_top ((congrFun (hY 9 (by decide)) (i)).trans (s9.trans (by rw [e]))) ?_
    refine z_tabIn (tgt := 228) d_M_bring_91 (by decide +kernel) (by decide +kernel) (show _ = some 137 by decide +kernel) (by decide) ?_
    refine z_aload_n d_M_bring_228 rfl ?_
    refine z_iload_n d_M_bring_229 rfl ?_
    refine z_iload d_M_bring_230 rfl ?_
    refine z_iload d_M_bring_232 rfl ?_
    refine z_iload d_M_bring_234 rfl ?_
    refine z_cVv (c_M_bringEach l E hA hX hY i hi (by omega) _ _ _ (by omega)) cb_M_bringEach ci_M_bringEach ln_M_174 (tp_o hA) rfl rfl (zlq rfl) rfl (zlq rfl) (zlq rfl) d_M_bring_236 ?_
    exact z_vret rfl d_M_bring_239 (zlq rfl) (zlq rfl) (⟨rfl, by unfold tBr; rw [e]; rfl⟩)
  · have q6 := l11b (by omega) (by omega)
    refine z_aload_n d_M_bring_0 rfl ?_
    refine z_get fa_M_22 d_M_bring_1 (tp_o hA) rfl ?_
    refine z_iload_n d_M_bring_4 rfl ?_
    refine z_iald (i) d_M_bring_5 (tp_a hA 8 rfl) rfl (show i < 60 from by omega) (by decide) ?_
    refine z_top ((congrFun (hY 8 (by decide)) (i)).trans s8) ?_
    refine z_istore_n d_M_bring_6 (zlt rfl) ?_
    refine z_iload_n d_M_bring_7 rfl ?_
    refine z_iload_n d_M_bring_8 rfl ?_
    refine z_aload_n d_M_bring_9 rfl ?_
    refine z_get fa_M_28 d_M_bring_10 (tp_o hA) rfl ?_
    refine z_iload_n d_M_bring_13 rfl ?_
    refine z_iald (i) d_M_bring_14 (tp_a hA 10 rfl) rfl (show i < 60 from by omega) (by decide) ?_
    refine z_top ((congrFun (hY 10 (by decide)) (i)).trans s10) ?_
    refine z_cSi (c_M_nameAt l E _ (ne X 8 i) (c) (ne X 10 i)) cb_M_nameAt cs_M_nameAt ln_M_166 rfl rfl (zlq rfl) rfl (zlq rfl) (zlq rfl) d_M_bring_15 ?_
    refine z_istore d_M_bring_18 (zlt rfl) ?_
    refine z_aload_n d_M_bring_20 rfl ?_
    refine z_get fa_M_25 d_M_bring_21 (tp_o hA) rfl ?_
    refine z_iload_n d_M_bring_24 rfl ?_
    refine z_iald (i) d_M_bring_25 (tp_a hA 9 rfl) rfl (show i < 60 from by omega) (by decide) ?_
    refine z_top ((congrFun (hY 9 (by decide)) (i)).trans (s9.trans (by rw [e]))) ?_
    refine z_bipush d_M_bring_26 bp_6 ?_
    refine z_icmp_ne (tgt := 35) d_M_bring_28 (by decide) (fun c28 => ?_) (fun c28 => absurd c28 (by decide +kernel))
    refine z_aload_n d_M_bring_35 rfl ?_
    refine z_get fa_M_49 d_M_bring_36 (tp_o hA) rfl ?_
    refine z_iload d_M_bring_39 rfl ?_
    refine z_iald (126 * (ne X 8 i) + 6 * (c) + ne X 10 i) d_M_bring_41 (tp_a hA 20 rfl) rfl (show 126 * (ne X 8 i) + 6 * (c) + ne X 10 i < 1260 from by omega) (by decide) ?_
    refine z_top (congrFun (hY 20 (by decide)) (126 * (ne X 8 i) + 6 * (c) + ne X 10 i)) ?_
    refine z_istore d_M_bring_42 (zlt rfl) ?_
    refine z_aload_n d_M_bring_44 rfl ?_
    refine z_get fa_M_25 d_M_bring_45 (tp_o hA) rfl ?_
    refine z_iload_n d_M_bring_48 rfl ?_
    refine z_iald (i) d_M_bring_49 (tp_a hA 9 rfl) rfl (show i < 60 from by omega) (by decide) ?_
    refine z_top ((congrFun (hY 9 (by decide)) (i)).trans (s9.trans (by rw [e]))) ?_
    refine z_if_eq (tgt := 63) d_M_bring_50 (by decide) (fun c50 => absurd c50 (by decide +kernel)) (fun c50 => ?_)
    refine z_aload_n d_M_bring_53 rfl ?_
    refine z_get fa_M_25 d_M_bring_54 (tp_o hA) rfl ?_
    refine z_iload_n d_M_bring_57 rfl ?_
    refine z_iald (i) d_M_bring_58 (tp_a hA 9 rfl) rfl (show i < 60 from by omega) (by decide) ?_
    refine z_top ((congrFun (hY 9 (by decide)) (i)).trans (s9.trans (by rw [e]))) ?_
    refine z_iconst d_M_bring_59 ic_5 ?_
    refine z_icmp_ne (tgt := 67) d_M_bring_60 (by decide) (fun c60 => ?_) (fun c60 => absurd c60 (by decide +kernel))
    refine z_aload_n d_M_bring_67 rfl ?_
    refine z_get fa_M_49 d_M_bring_68 (tp_o hA) rfl ?_
    refine z_iload_n d_M_bring_71 rfl ?_
    refine z_iload_n d_M_bring_72 rfl ?_
    refine z_aload_n d_M_bring_73 rfl ?_
    refine z_get fa_M_31 d_M_bring_74 (tp_o hA) rfl ?_
    refine z_iload_n d_M_bring_77 rfl ?_
    refine z_iald (i) d_M_bring_78 (tp_a hA 11 rfl) rfl (show i < 60 from by omega) (by decide) ?_
    refine z_top ((congrFun (hY 11 (by decide)) (i)).trans s11) ?_
    refine z_cSi (c_M_nameAt l E _ (ne X 8 i) (c) (ne X 11 i)) cb_M_nameAt cs_M_nameAt ln_M_166 rfl rfl (zlq rfl) rfl (zlq rfl) (zlq rfl) d_M_bring_79 ?_
    refine z_iald (126 * (ne X 8 i) + 6 * (c) + ne X 11 i) d_M_bring_82 (tp_a hA 20 rfl) rfl (show 126 * (ne X 8 i) + 6 * (c) + ne X 11 i < 1260 from by omega) (by decide) ?_
    refine z_top (congrFun (hY 20 (by decide)) (126 * (ne X 8 i) + 6 * (c) + ne X 11 i)) ?_
    refine z_istore d_M_bring_83 (zlt rfl) ?_
    refine z_aload_n d_M_bring_85 rfl ?_
    refine z_get fa_M_25 d_M_bring_86 (tp_o hA) rfl ?_
    refine z_iload_n d_M_bring_89 rfl ?_
    refine z_iald (i) d_M_bring_90 (tp_a hA 9 rfl) rfl (show i < 60 from by omega) (by decide) ?_
    refine z_top ((congrFun (hY 9 (by decide)) (i)).trans (s9.trans (by rw [e]))) ?_
    refine z_tabIn (tgt := 228) d_M_bring_91 (by decide +kernel) (by decide +kernel) (show _ = some 137 by decide +kernel) (by decide) ?_
    refine z_aload_n d_M_bring_228 rfl ?_
    refine z_iload_n d_M_bring_229 rfl ?_
    refine z_iload d_M_bring_230 rfl ?_
    refine z_iload d_M_bring_232 rfl ?_
    refine z_iload d_M_bring_234 rfl ?_
    refine z_cVv (c_M_bringEach l E hA hX hY i hi (by omega) _ _ _ (by omega)) cb_M_bringEach ci_M_bringEach ln_M_174 (tp_o hA) rfl rfl (zlq rfl) rfl (zlq rfl) (zlq rfl) d_M_bring_236 ?_
    exact z_vret rfl d_M_bring_239 (zlq rfl) (zlq rfl) (⟨rfl, by unfold tBr; rw [e]; rfl⟩)
  · have q5 := l11a e
    refine z_aload_n d_M_bring_0 rfl ?_
    refine z_get fa_M_22 d_M_bring_1 (tp_o hA) rfl ?_
    refine z_iload_n d_M_bring_4 rfl ?_
    refine z_iald (i) d_M_bring_5 (tp_a hA 8 rfl) rfl (show i < 60 from by omega) (by decide) ?_
    refine z_top ((congrFun (hY 8 (by decide)) (i)).trans s8) ?_
    refine z_istore_n d_M_bring_6 (zlt rfl) ?_
    refine z_iload_n d_M_bring_7 rfl ?_
    refine z_iload_n d_M_bring_8 rfl ?_
    refine z_aload_n d_M_bring_9 rfl ?_
    refine z_get fa_M_28 d_M_bring_10 (tp_o hA) rfl ?_
    refine z_iload_n d_M_bring_13 rfl ?_
    refine z_iald (i) d_M_bring_14 (tp_a hA 10 rfl) rfl (show i < 60 from by omega) (by decide) ?_
    refine z_top ((congrFun (hY 10 (by decide)) (i)).trans s10) ?_
    refine z_cSi (c_M_nameAt l E _ (ne X 8 i) (c) (ne X 10 i)) cb_M_nameAt cs_M_nameAt ln_M_166 rfl rfl (zlq rfl) rfl (zlq rfl) (zlq rfl) d_M_bring_15 ?_
    refine z_istore d_M_bring_18 (zlt rfl) ?_
    refine z_aload_n d_M_bring_20 rfl ?_
    refine z_get fa_M_25 d_M_bring_21 (tp_o hA) rfl ?_
    refine z_iload_n d_M_bring_24 rfl ?_
    refine z_iald (i) d_M_bring_25 (tp_a hA 9 rfl) rfl (show i < 60 from by omega) (by decide) ?_
    refine z_top ((congrFun (hY 9 (by decide)) (i)).trans (s9.trans (by rw [e]))) ?_
    refine z_bipush d_M_bring_26 bp_6 ?_
    refine z_icmp_ne (tgt := 35) d_M_bring_28 (by decide) (fun c28 => ?_) (fun c28 => absurd c28 (by decide +kernel))
    refine z_aload_n d_M_bring_35 rfl ?_
    refine z_get fa_M_49 d_M_bring_36 (tp_o hA) rfl ?_
    refine z_iload d_M_bring_39 rfl ?_
    refine z_iald (126 * (ne X 8 i) + 6 * (c) + ne X 10 i) d_M_bring_41 (tp_a hA 20 rfl) rfl (show 126 * (ne X 8 i) + 6 * (c) + ne X 10 i < 1260 from by omega) (by decide) ?_
    refine z_top (congrFun (hY 20 (by decide)) (126 * (ne X 8 i) + 6 * (c) + ne X 10 i)) ?_
    refine z_istore d_M_bring_42 (zlt rfl) ?_
    refine z_aload_n d_M_bring_44 rfl ?_
    refine z_get fa_M_25 d_M_bring_45 (tp_o hA) rfl ?_
    refine z_iload_n d_M_bring_48 rfl ?_
    refine z_iald (i) d_M_bring_49 (tp_a hA 9 rfl) rfl (show i < 60 from by omega) (by decide) ?_
    refine z_top ((congrFun (hY 9 (by decide)) (i)).trans (s9.trans (by rw [e]))) ?_
    refine z_if_eq (tgt := 63) d_M_bring_50 (by decide) (fun c50 => absurd c50 (by decide +kernel)) (fun c50 => ?_)
    refine z_aload_n d_M_bring_53 rfl ?_
    refine z_get fa_M_25 d_M_bring_54 (tp_o hA) rfl ?_
    refine z_iload_n d_M_bring_57 rfl ?_
    refine z_iald (i) d_M_bring_58 (tp_a hA 9 rfl) rfl (show i < 60 from by omega) (by decide) ?_
    refine z_top ((congrFun (hY 9 (by decide)) (i)).trans (s9.trans (by rw [e]))) ?_
    refine z_iconst d_M_bring_59 ic_5 ?_
    refine z_icmp_ne (tgt := 67) d_M_bring_60 (by decide) (fun c60 => absurd (by decide +kernel) c60) (fun c60 => ?_)
    refine z_iconst d_M_bring_63 ic_0 ?_
    refine z_goto (tgt := 83) d_M_bring_64 (by decide) ?_
    refine z_istore d_M_bring_83 (zlt rfl) ?_
    refine z_aload_n d_M_bring_85 rfl ?_
    refine z_get fa_M_25 d_M_bring_86 (tp_o hA) rfl ?_
    refine z_iload_n d_M_bring_89 rfl ?_
    refine z_iald (i) d_M_bring_90 (tp_a hA 9 rfl) rfl (show i < 60 from by omega) (by decide) ?_
    refine z_top ((congrFun (hY 9 (by decide)) (i)).trans (s9.trans (by rw [e]))) ?_
    refine z_tabIn (tgt := 172) d_M_bring_91 (by decide +kernel) (by decide +kernel) (show _ = some 81 by decide +kernel) (by decide) ?_
    refine z_aload_n d_M_bring_172 rfl ?_
    refine z_get fa_M_52 d_M_bring_173 (tp_o hA) rfl ?_
    refine z_iload d_M_bring_176 rfl ?_
    refine z_dup2 d_M_bring_178 rfl rfl ?_
    refine z_iald (126 * (ne X 8 i) + 6 * (c) + ne X 10 i) d_M_bring_179 (tp_a hA 21 rfl) rfl (show 126 * (ne X 8 i) + 6 * (c) + ne X 10 i < 1260 from by omega) (by decide) ?_
    refine z_aload_n d_M_bring_180 rfl ?_
    refine z_get fa_M_67 d_M_bring_181 (tp_o hA) rfl ?_
    refine z_aload_n d_M_bring_184 rfl ?_
    refine z_get fa_M_31 d_M_bring_185 (tp_o hA) rfl ?_
    refine z_iload_n d_M_bring_188 rfl ?_
    refine z_iald (i) d_M_bring_189 (tp_a hA 11 rfl) rfl (show i < 60 from by omega) (by decide) ?_
    refine z_top ((congrFun (hY 11 (by decide)) (i)).trans s11) ?_
    refine z_iald (ne X 11 i) d_M_bring_190 (tp_a hA 26 rfl) rfl (show ne X 11 i < 4 from by omega) (by decide) ?_
    refine z_top (congrFun (hY 26 (by decide)) (ne X 11 i)) ?_
    refine z_ior d_M_bring_191 ?_
    refine t_ast (kf := 21) (j := 126 * (ne X 8 i) + 6 * (c) + ne X 10 i) d_M_bring_192 hA rfl rfl (show 126 * (ne X 8 i) + 6 * (c) + ne X 10 i < 1260 from by omega) (by decide) ?_
    refine z_goto (tgt := 239) d_M_bring_193 (by decide) ?_
    exact z_vret rfl d_M_bring_239 (zlq rfl) (zlq rfl) (⟨rfl, by unfold tBr; rw [e]; rfl⟩)
  · have q6 := l11b (by omega) (by omega)
    have q4 := l10a e
    refine z_aload_n d_M_bring_0 rfl ?_
    refine z_get fa_M_22 d_M_bring_1 (tp_o hA) rfl ?_
    refine z_iload_n d_M_bring_4 rfl ?_
    refine z_iald (i) d_M_bring_5 (tp_a hA 8 rfl) rfl (show i < 60 from by omega) (by decide) ?_
    refine z_top ((congrFun (hY 8 (by decide)) (i)).trans s8) ?_
    refine z_istore_n d_M_bring_6 (zlt rfl) ?_
    refine z_iload_n d_M_bring_7 rfl ?_
    refine z_iload_n d_M_bring_8 rfl ?_
    refine z_aload_n d_M_bring_9 rfl ?_
    refine z_get fa_M_28 d_M_bring_10 (tp_o hA) rfl ?_
    refine z_iload_n d_M_bring_13 rfl ?_
    refine z_iald (i) d_M_bring_14 (tp_a hA 10 rfl) rfl (show i < 60 from by omega) (by decide) ?_
    refine z_top ((congrFun (hY 10 (by decide)) (i)).trans s10) ?_
    refine z_cSi (c_M_nameAt l E _ (ne X 8 i) (c) (ne X 10 i)) cb_M_nameAt cs_M_nameAt ln_M_166 rfl rfl (zlq rfl) rfl (zlq rfl) (zlq rfl) d_M_bring_15 ?_
    refine z_istore d_M_bring_18 (zlt rfl) ?_
    refine z_aload_n d_M_bring_20 rfl ?_
    refine z_get fa_M_25 d_M_bring_21 (tp_o hA) rfl ?_
    refine z_iload_n d_M_bring_24 rfl ?_
    refine z_iald (i) d_M_bring_25 (tp_a hA 9 rfl) rfl (show i < 60 from by omega) (by decide) ?_
    refine z_top ((congrFun (hY 9 (by decide)) (i)).trans (s9.trans (by rw [e]))) ?_
    refine z_bipush d_M_bring_26 bp_6 ?_
    refine z_icmp_ne (tgt := 35) d_M_bring_28 (by decide) (fun c28 => absurd (by decide +kernel) c28) (fun c28 => ?_)
    refine z_iconst d_M_bring_31 ic_0 ?_
    refine z_goto (tgt := 42) d_M_bring_32 (by decide) ?_
    refine z_istore d_M_bring_42 (zlt rfl) ?_
    refine z_aload_n d_M_bring_44 rfl ?_
    refine z_get fa_M_25 d_M_bring_45 (tp_o hA) rfl ?_
    refine z_iload_n d_M_bring_48 rfl ?_
    refine z_iald (i) d_M_bring_49 (tp_a hA 9 rfl) rfl (show i < 60 from by omega) (by decide) ?_
    refine z_top ((congrFun (hY 9 (by decide)) (i)).trans (s9.trans (by rw [e]))) ?_
    refine z_if_eq (tgt := 63) d_M_bring_50 (by decide) (fun c50 => absurd c50 (by decide +kernel)) (fun c50 => ?_)
    refine z_aload_n d_M_bring_53 rfl ?_
    refine z_get fa_M_25 d_M_bring_54 (tp_o hA) rfl ?_
    refine z_iload_n d_M_bring_57 rfl ?_
    refine z_iald (i) d_M_bring_58 (tp_a hA 9 rfl) rfl (show i < 60 from by omega) (by decide) ?_
    refine z_top ((congrFun (hY 9 (by decide)) (i)).trans (s9.trans (by rw [e]))) ?_
    refine z_iconst d_M_bring_59 ic_5 ?_
    refine z_icmp_ne (tgt := 67) d_M_bring_60 (by decide) (fun c60 => ?_) (fun c60 => absurd c60 (by decide +kernel))
    refine z_aload_n d_M_bring_67 rfl ?_
    refine z_get fa_M_49 d_M_bring_68 (tp_o hA) rfl ?_
    refine z_iload_n d_M_bring_71 rfl ?_
    refine z_iload_n d_M_bring_72 rfl ?_
    refine z_aload_n d_M_bring_73 rfl ?_
    refine z_get fa_M_31 d_M_bring_74 (tp_o hA) rfl ?_
    refine z_iload_n d_M_bring_77 rfl ?_
    refine z_iald (i) d_M_bring_78 (tp_a hA 11 rfl) rfl (show i < 60 from by omega) (by decide) ?_
    refine z_top ((congrFun (hY 11 (by decide)) (i)).trans s11) ?_
    refine z_cSi (c_M_nameAt l E _ (ne X 8 i) (c) (ne X 11 i)) cb_M_nameAt cs_M_nameAt ln_M_166 rfl rfl (zlq rfl) rfl (zlq rfl) (zlq rfl) d_M_bring_79 ?_
    refine z_iald (126 * (ne X 8 i) + 6 * (c) + ne X 11 i) d_M_bring_82 (tp_a hA 20 rfl) rfl (show 126 * (ne X 8 i) + 6 * (c) + ne X 11 i < 1260 from by omega) (by decide) ?_
    refine z_top (congrFun (hY 20 (by decide)) (126 * (ne X 8 i) + 6 * (c) + ne X 11 i)) ?_
    refine z_istore d_M_bring_83 (zlt rfl) ?_
    refine z_aload_n d_M_bring_85 rfl ?_
    refine z_get fa_M_25 d_M_bring_86 (tp_o hA) rfl ?_
    refine z_iload_n d_M_bring_89 rfl ?_
    refine z_iald (i) d_M_bring_90 (tp_a hA 9 rfl) rfl (show i < 60 from by omega) (by decide) ?_
    refine z_top ((congrFun (hY 9 (by decide)) (i)).trans (s9.trans (by rw [e]))) ?_
    refine z_tabIn (tgt := 196) d_M_bring_91 (by decide +kernel) (by decide +kernel) (show _ = some 105 by decide +kernel) (by decide) ?_
    refine z_aload_n d_M_bring_196 rfl ?_
    refine z_get fa_M_70 d_M_bring_197 (tp_o hA) rfl ?_
    refine z_aload_n d_M_bring_200 rfl ?_
    refine z_get fa_M_28 d_M_bring_201 (tp_o hA) rfl ?_
    refine z_iload_n d_M_bring_204 rfl ?_
    refine z_iald (i) d_M_bring_205 (tp_a hA 10 rfl) rfl (show i < 60 from by omega) (by decide) ?_
    refine z_top ((congrFun (hY 10 (by decide)) (i)).trans s10) ?_
    refine z_dup2 d_M_bring_206 rfl rfl ?_
    refine z_iald (ne X 10 i) d_M_bring_207 (tp_a hA 27 rfl) rfl (show ne X 10 i < 4 from by omega) (by decide) ?_
    refine z_iload d_M_bring_208 rfl ?_
    refine z_ior d_M_bring_210 ?_
    refine t_ast (kf := 27) (j := ne X 10 i) d_M_bring_211 hA rfl rfl (show ne X 10 i < 4 from by omega) (by decide) ?_
    refine z_goto (tgt := 239) d_M_bring_212 (by decide) ?_
    exact z_vret rfl d_M_bring_239 (zlq rfl) (zlq rfl) (⟨rfl, by unfold tBr; rw [e]; rfl⟩)
  · have q6 := l11b (by omega) (by omega)
    refine z_aload_n d_M_bring_0 rfl ?_
    refine z_get fa_M_22 d_M_bring_1 (tp_o hA) rfl ?_
    refine z_iload_n d_M_bring_4 rfl ?_
    refine z_iald (i) d_M_bring_5 (tp_a hA 8 rfl) rfl (show i < 60 from by omega) (by decide) ?_
    refine z_top ((congrFun (hY 8 (by decide)) (i)).trans s8) ?_
    refine z_istore_n d_M_bring_6 (zlt rfl) ?_
    refine z_iload_n d_M_bring_7 rfl ?_
    refine z_iload_n d_M_bring_8 rfl ?_
    refine z_aload_n d_M_bring_9 rfl ?_
    refine z_get fa_M_28 d_M_bring_10 (tp_o hA) rfl ?_
    refine z_iload_n d_M_bring_13 rfl ?_
    refine z_iald (i) d_M_bring_14 (tp_a hA 10 rfl) rfl (show i < 60 from by omega) (by decide) ?_
    refine z_top ((congrFun (hY 10 (by decide)) (i)).trans s10) ?_
    refine z_cSi (c_M_nameAt l E _ (ne X 8 i) (c) (ne X 10 i)) cb_M_nameAt cs_M_nameAt ln_M_166 rfl rfl (zlq rfl) rfl (zlq rfl) (zlq rfl) d_M_bring_15 ?_
    refine z_istore d_M_bring_18 (zlt rfl) ?_
    refine z_aload_n d_M_bring_20 rfl ?_
    refine z_get fa_M_25 d_M_bring_21 (tp_o hA) rfl ?_
    refine z_iload_n d_M_bring_24 rfl ?_
    refine z_iald (i) d_M_bring_25 (tp_a hA 9 rfl) rfl (show i < 60 from by omega) (by decide) ?_
    refine z_top ((congrFun (hY 9 (by decide)) (i)).trans (s9.trans (by rw [e]))) ?_
    refine z_bipush d_M_bring_26 bp_6 ?_
    refine z_icmp_ne (tgt := 35) d_M_bring_28 (by decide) (fun c28 => ?_) (fun c28 => absurd c28 (by decide +kernel))
    refine z_aload_n d_M_bring_35 rfl ?_
    refine z_get fa_M_49 d_M_bring_36 (tp_o hA) rfl ?_
    refine z_iload d_M_bring_39 rfl ?_
    refine z_iald (126 * (ne X 8 i) + 6 * (c) + ne X 10 i) d_M_bring_41 (tp_a hA 20 rfl) rfl (show 126 * (ne X 8 i) + 6 * (c) + ne X 10 i < 1260 from by omega) (by decide) ?_
    refine z_top (congrFun (hY 20 (by decide)) (126 * (ne X 8 i) + 6 * (c) + ne X 10 i)) ?_
    refine z_istore d_M_bring_42 (zlt rfl) ?_
    refine z_aload_n d_M_bring_44 rfl ?_
    refine z_get fa_M_25 d_M_bring_45 (tp_o hA) rfl ?_
    refine z_iload_n d_M_bring_48 rfl ?_
    refine z_iald (i) d_M_bring_49 (tp_a hA 9 rfl) rfl (show i < 60 from by omega) (by decide) ?_
    refine z_top ((congrFun (hY 9 (by decide)) (i)).trans (s9.trans (by rw [e]))) ?_
    refine z_if_eq (tgt := 63) d_M_bring_50 (by decide) (fun c50 => absurd c50 (by decide +kernel)) (fun c50 => ?_)
    refine z_aload_n d_M_bring_53 rfl ?_
    refine z_get fa_M_25 d_M_bring_54 (tp_o hA) rfl ?_
    refine z_iload_n d_M_bring_57 rfl ?_
    refine z_iald (i) d_M_bring_58 (tp_a hA 9 rfl) rfl (show i < 60 from by omega) (by decide) ?_
    refine z_top ((congrFun (hY 9 (by decide)) (i)).trans (s9.trans (by rw [e]))) ?_
    refine z_iconst d_M_bring_59 ic_5 ?_
    refine z_icmp_ne (tgt := 67) d_M_bring_60 (by decide) (fun c60 => ?_) (fun c60 => absurd c60 (by decide +kernel))
    refine z_aload_n d_M_bring_67 rfl ?_
    refine z_get fa_M_49 d_M_bring_68 (tp_o hA) rfl ?_
    refine z_iload_n d_M_bring_71 rfl ?_
    refine z_iload_n d_M_bring_72 rfl ?_
    refine z_aload_n d_M_bring_73 rfl ?_
    refine z_get fa_M_31 d_M_bring_74 (tp_o hA) rfl ?_
    refine z_iload_n d_M_bring_77 rfl ?_
    refine z_iald (i) d_M_bring_78 (tp_a hA 11 rfl) rfl (show i < 60 from by omega) (by decide) ?_
    refine z_top ((congrFun (hY 11 (by decide)) (i)).trans s11) ?_
    refine z_cSi (c_M_nameAt l E _ (ne X 8 i) (c) (ne X 11 i)) cb_M_nameAt cs_M_nameAt ln_M_166 rfl rfl (zlq rfl) rfl (zlq rfl) (zlq rfl) d_M_bring_79 ?_
    refine z_iald (126 * (ne X 8 i) + 6 * (c) + ne X 11 i) d_M_bring_82 (tp_a hA 20 rfl) rfl (show 126 * (ne X 8 i) + 6 * (c) + ne X 11 i < 1260 from by omega) (by decide) ?_
    refine z_top (congrFun (hY 20 (by decide)) (126 * (ne X 8 i) + 6 * (c) + ne X 11 i)) ?_
    refine z_istore d_M_bring_83 (zlt rfl) ?_
    refine z_aload_n d_M_bring_85 rfl ?_
    refine z_get fa_M_25 d_M_bring_86 (tp_o hA) rfl ?_
    refine z_iload_n d_M_bring_89 rfl ?_
    refine z_iald (i) d_M_bring_90 (tp_a hA 9 rfl) rfl (show i < 60 from by omega) (by decide) ?_
    refine z_top ((congrFun (hY 9 (by decide)) (i)).trans (s9.trans (by rw [e]))) ?_
    refine z_tabIn (tgt := 215) d_M_bring_91 (by decide +kernel) (by decide +kernel) (show _ = some 124 by decide +kernel) (by decide) ?_
    refine z_aload_n d_M_bring_215 rfl ?_
    refine z_iload_n d_M_bring_216 rfl ?_
    refine z_iload_n d_M_bring_217 rfl ?_
    refine z_iload d_M_bring_218 rfl ?_
    refine z_iload d_M_bring_220 rfl ?_
    refine z_cVv (c_M_call l E hA hX hY i hi e c hc _ _ (by omega)) cb_M_call ci_M_call ln_M_170 (tp_o hA) rfl rfl (zlq rfl) rfl (zlq rfl) (zlq rfl) d_M_bring_222 ?_
    refine z_goto (tgt := 239) d_M_bring_225 (by decide) ?_
    exact z_vret rfl d_M_bring_239 (zlq rfl) (zlq rfl) (⟨rfl, by unfold tBr; rw [e]; rfl⟩)
  · have q6 := l11b (by omega) (by omega)
    refine z_aload_n d_M_bring_0 rfl ?_
    refine z_get fa_M_22 d_M_bring_1 (tp_o hA) rfl ?_
    refine z_iload_n d_M_bring_4 rfl ?_
    refine z_iald (i) d_M_bring_5 (tp_a hA 8 rfl) rfl (show i < 60 from by omega) (by decide) ?_
    refine z_top ((congrFun (hY 8 (by decide)) (i)).trans s8) ?_
    refine z_istore_n d_M_bring_6 (zlt rfl) ?_
    refine z_iload_n d_M_bring_7 rfl ?_
    refine z_iload_n d_M_bring_8 rfl ?_
    refine z_aload_n d_M_bring_9 rfl ?_
    refine z_get fa_M_28 d_M_bring_10 (tp_o hA) rfl ?_
    refine z_iload_n d_M_bring_13 rfl ?_
    refine z_iald (i) d_M_bring_14 (tp_a hA 10 rfl) rfl (show i < 60 from by omega) (by decide) ?_
    refine z_top ((congrFun (hY 10 (by decide)) (i)).trans s10) ?_
    refine z_cSi (c_M_nameAt l E _ (ne X 8 i) (c) (ne X 10 i)) cb_M_nameAt cs_M_nameAt ln_M_166 rfl rfl (zlq rfl) rfl (zlq rfl) (zlq rfl) d_M_bring_15 ?_
    refine z_istore d_M_bring_18 (zlt rfl) ?_
    refine z_aload_n d_M_bring_20 rfl ?_
    refine z_get fa_M_25 d_M_bring_21 (tp_o hA) rfl ?_
    refine z_iload_n d_M_bring_24 rfl ?_
    refine z_iald (i) d_M_bring_25 (tp_a hA 9 rfl) rfl (show i < 60 from by omega) (by decide) ?_
    refine z_top ((congrFun (hY 9 (by decide)) (i)).trans (s9.trans (by rw [e]))) ?_
    refine z_bipush d_M_bring_26 bp_6 ?_
    refine z_icmp_ne (tgt := 35) d_M_bring_28 (by decide) (fun c28 => ?_) (fun c28 => absurd c28 (by decide +kernel))
    refine z_aload_n d_M_bring_35 rfl ?_
    refine z_get fa_M_49 d_M_bring_36 (tp_o hA) rfl ?_
    refine z_iload d_M_bring_39 rfl ?_
    refine z_iald (126 * (ne X 8 i) + 6 * (c) + ne X 10 i) d_M_bring_41 (tp_a hA 20 rfl) rfl (show 126 * (ne X 8 i) + 6 * (c) + ne X 10 i < 1260 from by omega) (by decide) ?_
    refine z_top (congrFun (hY 20 (by decide)) (126 * (ne X 8 i) + 6 * (c) + ne X 10 i)) ?_
    refine z_istore d_M_bring_42 (zlt rfl) ?_
    refine z_aload_n d_M_bring_44 rfl ?_
    refine z_get fa_M_25 d_M_bring_45 (tp_o hA) rfl ?_
    refine z_iload_n d_M_bring_48 rfl ?_
    refine z_iald (i) d_M_bring_49 (tp_a hA 9 rfl) rfl (show i < 60 from by omega) (by decide) ?_
    refine z_top ((congrFun (hY 9 (by decide)) (i)).trans (s9.trans (by rw [e]))) ?_
    refine z_if_eq (tgt := 63) d_M_bring_50 (by decide) (fun c50 => absurd c50 (by decide +kernel)) (fun c50 => ?_)
    refine z_aload_n d_M_bring_53 rfl ?_
    refine z_get fa_M_25 d_M_bring_54 (tp_o hA) rfl ?_
    refine z_iload_n d_M_bring_57 rfl ?_
    refine z_iald (i) d_M_bring_58 (tp_a hA 9 rfl) rfl (show i < 60 from by omega) (by decide) ?_
    refine z_top ((congrFun (hY 9 (by decide)) (i)).trans (s9.trans (by rw [e]))) ?_
    refine z_iconst d_M_bring_59 ic_5 ?_
    refine z_icmp_ne (tgt := 67) d_M_bring_60 (by decide) (fun c60 => ?_) (fun c60 => absurd c60 (by decide +kernel))
    refine z_aload_n d_M_bring_67 rfl ?_
    refine z_get fa_M_49 d_M_bring_68 (tp_o hA) rfl ?_
    refine z_iload_n d_M_bring_71 rfl ?_
    refine z_iload_n d_M_bring_72 rfl ?_
    refine z_aload_n d_M_bring_73 rfl ?_
    refine z_get fa_M_31 d_M_bring_74 (tp_o hA) rfl ?_
    refine z_iload_n d_M_bring_77 rfl ?_
    refine z_iald (i) d_M_bring_78 (tp_a hA 11 rfl) rfl (show i < 60 from by omega) (by decide) ?_
    refine z_top ((congrFun (hY 11 (by decide)) (i)).trans s11) ?_
    refine z_cSi (c_M_nameAt l E _ (ne X 8 i) (c) (ne X 11 i)) cb_M_nameAt cs_M_nameAt ln_M_166 rfl rfl (zlq rfl) rfl (zlq rfl) (zlq rfl) d_M_bring_79 ?_
    refine z_iald (126 * (ne X 8 i) + 6 * (c) + ne X 11 i) d_M_bring_82 (tp_a hA 20 rfl) rfl (show 126 * (ne X 8 i) + 6 * (c) + ne X 11 i < 1260 from by omega) (by decide) ?_
    refine z_top (congrFun (hY 20 (by decide)) (126 * (ne X 8 i) + 6 * (c) + ne X 11 i)) ?_
    refine z_istore d_M_bring_83 (zlt rfl) ?_
    refine z_aload_n d_M_bring_85 rfl ?_
    refine z_get fa_M_25 d_M_bring_86 (tp_o hA) rfl ?_
    refine z_iload_n d_M_bring_89 rfl ?_
    refine z_iald (i) d_M_bring_90 (tp_a hA 9 rfl) rfl (show i < 60 from by omega) (by decide) ?_
    refine z_top ((congrFun (hY 9 (by decide)) (i)).trans (s9.trans (by rw [e]))) ?_
    refine z_tabOut (tgt := 228) d_M_bring_91 (by decide +kernel) (by decide) ?_
    refine z_aload_n d_M_bring_228 rfl ?_
    refine z_iload_n d_M_bring_229 rfl ?_
    refine z_iload d_M_bring_230 rfl ?_
    refine z_iload d_M_bring_232 rfl ?_
    refine z_iload d_M_bring_234 rfl ?_
    refine z_cVv (c_M_bringEach l E hA hX hY i hi (by omega) _ _ _ (by omega)) cb_M_bringEach ci_M_bringEach ln_M_174 (tp_o hA) rfl rfl (zlq rfl) rfl (zlq rfl) (zlq rfl) d_M_bring_236 ?_
    exact z_vret rfl d_M_bring_239 (zlq rfl) (zlq rfl) (⟨rfl, by unfold tBr; rw [e]; rfl⟩)
  · have q6 := l11b (by omega) (by omega)
    refine z_aload_n d_M_bring_0 rfl ?_
    refine z_get fa_M_22 d_M_bring_1 (tp_o hA) rfl ?_
    refine z_iload_n d_M_bring_4 rfl ?_
    refine z_iald (i) d_M_bring_5 (tp_a hA 8 rfl) rfl (show i < 60 from by omega) (by decide) ?_
    refine z_top ((congrFun (hY 8 (by decide)) (i)).trans s8) ?_
    refine z_istore_n d_M_bring_6 (zlt rfl) ?_
    refine z_iload_n d_M_bring_7 rfl ?_
    refine z_iload_n d_M_bring_8 rfl ?_
    refine z_aload_n d_M_bring_9 rfl ?_
    refine z_get fa_M_28 d_M_bring_10 (tp_o hA) rfl ?_
    refine z_iload_n d_M_bring_13 rfl ?_
    refine z_iald (i) d_M_bring_14 (tp_a hA 10 rfl) rfl (show i < 60 from by omega) (by decide) ?_
    refine z_top ((congrFun (hY 10 (by decide)) (i)).trans s10) ?_
    refine z_cSi (c_M_nameAt l E _ (ne X 8 i) (c) (ne X 10 i)) cb_M_nameAt cs_M_nameAt ln_M_166 rfl rfl (zlq rfl) rfl (zlq rfl) (zlq rfl) d_M_bring_15 ?_
    refine z_istore d_M_bring_18 (zlt rfl) ?_
    refine z_aload_n d_M_bring_20 rfl ?_
    refine z_get fa_M_25 d_M_bring_21 (tp_o hA) rfl ?_
    refine z_iload_n d_M_bring_24 rfl ?_
    refine z_iald (i) d_M_bring_25 (tp_a hA 9 rfl) rfl (show i < 60 from by omega) (by decide) ?_
    refine z_top ((congrFun (hY 9 (by decide)) (i)).trans (s9.trans (by rw [e]))) ?_
    refine z_bipush d_M_bring_26 bp_6 ?_
    refine z_icmp_ne (tgt := 35) d_M_bring_28 (by decide) (fun c28 => ?_) (fun c28 => absurd c28 (by decide +kernel))
    refine z_aload_n d_M_bring_35 rfl ?_
    refine z_get fa_M_49 d_M_bring_36 (tp_o hA) rfl ?_
    refine z_iload d_M_bring_39 rfl ?_
    refine z_iald (126 * (ne X 8 i) + 6 * (c) + ne X 10 i) d_M_bring_41 (tp_a hA 20 rfl) rfl (show 126 * (ne X 8 i) + 6 * (c) + ne X 10 i < 1260 from by omega) (by decide) ?_
    refine z_top (congrFun (hY 20 (by decide)) (126 * (ne X 8 i) + 6 * (c) + ne X 10 i)) ?_
    refine z_istore d_M_bring_42 (zlt rfl) ?_
    refine z_aload_n d_M_bring_44 rfl ?_
    refine z_get fa_M_25 d_M_bring_45 (tp_o hA) rfl ?_
    refine z_iload_n d_M_bring_48 rfl ?_
    refine z_iald (i) d_M_bring_49 (tp_a hA 9 rfl) rfl (show i < 60 from by omega) (by decide) ?_
    refine z_top ((congrFun (hY 9 (by decide)) (i)).trans (s9.trans (by rw [e]))) ?_
    refine z_if_eq (tgt := 63) d_M_bring_50 (by decide) (fun c50 => absurd c50 (by decide +kernel)) (fun c50 => ?_)
    refine z_aload_n d_M_bring_53 rfl ?_
    refine z_get fa_M_25 d_M_bring_54 (tp_o hA) rfl ?_
    refine z_iload_n d_M_bring_57 rfl ?_
    refine z_iald (i) d_M_bring_58 (tp_a hA 9 rfl) rfl (show i < 60 from by omega) (by decide) ?_
    refine z_top ((congrFun (hY 9 (by decide)) (i)).trans (s9.trans (by rw [e]))) ?_
    refine z_iconst d_M_bring_59 ic_5 ?_
    refine z_icmp_ne (tgt := 67) d_M_bring_60 (by decide) (fun c60 => ?_) (fun c60 => absurd c60 (by decide +kernel))
    refine z_aload_n d_M_bring_67 rfl ?_
    refine z_get fa_M_49 d_M_bring_68 (tp_o hA) rfl ?_
    refine z_iload_n d_M_bring_71 rfl ?_
    refine z_iload_n d_M_bring_72 rfl ?_
    refine z_aload_n d_M_bring_73 rfl ?_
    refine z_get fa_M_31 d_M_bring_74 (tp_o hA) rfl ?_
    refine z_iload_n d_M_bring_77 rfl ?_
    refine z_iald (i) d_M_bring_78 (tp_a hA 11 rfl) rfl (show i < 60 from by omega) (by decide) ?_
    refine z_top ((congrFun (hY 11 (by decide)) (i)).trans s11) ?_
    refine z_cSi (c_M_nameAt l E _ (ne X 8 i) (c) (ne X 11 i)) cb_M_nameAt cs_M_nameAt ln_M_166 rfl rfl (zlq rfl) rfl (zlq rfl) (zlq rfl) d_M_bring_79 ?_
    refine z_iald (126 * (ne X 8 i) + 6 * (c) + ne X 11 i) d_M_bring_82 (tp_a hA 20 rfl) rfl (show 126 * (ne X 8 i) + 6 * (c) + ne X 11 i < 1260 from by omega) (by decide) ?_
    refine z_top (congrFun (hY 20 (by decide)) (126 * (ne X 8 i) + 6 * (c) + ne X 11 i)) ?_
    refine z_istore d_M_bring_83 (zlt rfl) ?_
    refine z_aload_n d_M_bring_85 rfl ?_
    refine z_get fa_M_25 d_M_bring_86 (tp_o hA) rfl ?_
    refine z_iload_n d_M_bring_89 rfl ?_
    refine z_iald (i) d_M_bring_90 (tp_a hA 9 rfl) rfl (show i < 60 from by omega) (by decide) ?_
    refine z_top ((congrFun (hY 9 (by decide)) (i)).trans (s9.trans (by rw [e]))) ?_
    refine z_tabOut (tgt := 228) d_M_bring_91 (by decide +kernel) (by decide) ?_
    refine z_aload_n d_M_bring_228 rfl ?_
    refine z_iload_n d_M_bring_229 rfl ?_
    refine z_iload d_M_bring_230 rfl ?_
    refine z_iload d_M_bring_232 rfl ?_
    refine z_iload d_M_bring_234 rfl ?_
    refine z_cVv (c_M_bringEach l E hA hX hY i hi (by omega) _ _ _ (by omega)) cb_M_bringEach ci_M_bringEach ln_M_174 (tp_o hA) rfl rfl (zlq rfl) rfl (zlq rfl) (zlq rfl) d_M_bring_236 ?_
    exact z_vret rfl d_M_bring_239 (zlq rfl) (zlq rfl) (⟨rfl, by unfold tBr; rw [e]; rfl⟩)
