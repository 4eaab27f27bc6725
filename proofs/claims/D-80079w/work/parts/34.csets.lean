/-! the component: Sets -/
theorem bI_or (a b : Bool) : bI a ||| bI b = bI (a || b) := by cases a <;> cases b <;> decide +kernel
abbrev rm_Se_body : Room := { frames := 3, cells := 0, slots := 0, locals := 64 }
set_option maxHeartbeats 4000000 in
set_option maxRecDepth 100000 in
theorem c_Se_body (l : Launch) (E : zE) {A : rl → Nat} {K : Nat → Nat → Nat} (hA : cIj K A) (X S R : zSt) (m c : Nat) (hm : m < 10) (hc : c < 21) : zM l E y_Se_body b_Se_body 3 ((some (.object "PointsToRounds$Body"))) rm_Se_body [.ref (A (9, 0)), .int (nI m), .int (nI c)] (cp E A K X S R) (zPr (some (A (19, 21 * m + c))) (cp E A K X S R)) := by
  refine zM_w (by decide +kernel) rfl rfl (fun sz => ?_)
  refine z_aload_n d_Se_body_0 rfl ?_
  refine z_get fa_Se_18 d_Se_body_1 (cp_9 hA) rfl ?_
  refine z_bipush d_Se_body_4 bp_21 ?_
  refine z_iload_n d_Se_body_6 rfl ?_
  refine z_imul d_Se_body_7 ?_
  refine z_top (pk_mul (21) (m)) ?_
  refine z_iload_n d_Se_body_8 rfl ?_
  refine z_iadd d_Se_body_9 ?_
  refine z_top (nI_add (21 * m) (c)) ?_
  refine z_cFr (c_get11_0 l E hA _ _ _ (21 * m + c) (by omega)) cb_AL_get cf_get k_475 (cp_11 hA (j := 0) (by omega)) rfl rfl (zlq rfl) rfl (zlq rfl) (zlq rfl) d_Se_body_10 ?_
  refine z_rf ?_
  refine z_cast (r := (R_Bo, F_Bo, 4)) rfl k_122 k_1142 (cp_19 hA (j := 21 * m + c) (by omega)) d_Se_body_15 ?_
  exact z_aret (r := some (A (19, 21 * m + c))) rfl (Or.inl ⟨_, rfl⟩) d_Se_body_18 (zlq rfl) (zlq rfl) (⟨rfl, rfl⟩)
abbrev rm_Se_field : Room := { frames := 3, cells := 0, slots := 0, locals := 64 }
set_option maxHeartbeats 4000000 in
set_option maxRecDepth 100000 in
theorem c_Se_field (l : Launch) (E : zE) {A : rl → Nat} {K : Nat → Nat → Nat} (hA : cIj K A) (X S R : zSt) (o f : Nat) (ho : o < 20) (hf : f < 8) : zM l E y_Se_field b_Se_field 3 ((some (.object "PointsToRounds$Cell"))) rm_Se_field [.ref (A (9, 0)), .int (nI o), .int (nI f)] (cp E A K X S R) (zPr (some (A (23, 8 * o + f))) (cp E A K X S R)) := by
  refine zM_w (by decide +kernel) rfl rfl (fun sz => ?_)
  refine z_aload_n d_Se_field_0 rfl ?_
  refine z_get fa_Se_22 d_Se_field_1 (cp_9 hA) rfl ?_
  refine z_bipush d_Se_field_4 bp_8 ?_
  refine z_iload_n d_Se_field_6 rfl ?_
  refine z_imul d_Se_field_7 ?_
  refine z_top (pk_mul (8) (o)) ?_
  refine z_iload_n d_Se_field_8 rfl ?_
  refine z_iadd d_Se_field_9 ?_
  refine z_top (nI_add (8 * o) (f)) ?_
  refine z_cFr (c_get11_1 l E hA _ _ _ (8 * o + f) (by omega)) cb_AL_get cf_get k_475 (cp_11 hA (j := 1) (by omega)) rfl rfl (zlq rfl) rfl (zlq rfl) (zlq rfl) d_Se_field_10 ?_
  refine z_rf ?_
  refine z_cast (r := (R_Ce, F_Ce, 3)) rfl k_230 k_1143 (cp_23 hA (j := 8 * o + f) (by omega)) d_Se_field_15 ?_
  exact z_aret (r := some (A (23, 8 * o + f))) rfl (Or.inl ⟨_, rfl⟩) d_Se_field_18 (zlq rfl) (zlq rfl) (⟨rfl, rfl⟩)
abbrev rm_Se_has : Room := { frames := 4, cells := 0, slots := 0, locals := 85 }
set_option maxHeartbeats 4000000 in
set_option maxRecDepth 100000 in
theorem c_Se_has (l : Launch) (E : zE) {A : rl → Nat} {K : Nat → Nat → Nat} (hA : cIj K A) (X S R : zSt) (b n o : Nat) (hb : b < 210) (hn : n < 6) : zM l E y_Se_has b_Se_has 4 ((some .boolean)) rm_Se_has [.ref (A (9, 0)), .ref (A (19, b)), .int (nI n), .int (nI o)] (cp E A K X S R) (zPi (bI (tb (S 20 (6 * b + n)) o)) (cp E A K X S R)) := by
  refine zM_w (by decide +kernel) rfl rfl (fun sz => ?_)
  refine z_aload_n d_Se_has_0 rfl ?_
  refine z_iload_n d_Se_has_1 rfl ?_
  refine z_cVr (c_name l E hA _ _ _ (b) (n) (by omega) (by omega)) cb_Bo_name ci_Bo_name ln_Se_65 (cp_19 hA (j := b) (by omega)) rfl rfl (zlq rfl) rfl (zlq rfl) (zlq rfl) d_Se_has_2 ?_
  refine z_rf ?_
  refine z_get fa_Se_123 d_Se_has_5 (cp_22 hA (j := 6 * b + n) (by omega)) rfl ?_
  refine z_iload_n d_Se_has_8 rfl ?_
  refine z_ishr d_Se_has_9 ?_
  refine z_iconst d_Se_has_10 ic_1 ?_
  refine z_iand d_Se_has_11 ?_
  refine z_iconst d_Se_has_12 ic_1 ?_
  refine z_icmp_ne (tgt := 20) d_Se_has_13 (by decide) (fun c13 => ?_) (fun c13 => ?_)
  · refine z_iconst d_Se_has_20 ic_0 ?_
    exact z_zret rfl nz_0 d_Se_has_21 (zlq rfl) (zlq rfl) (⟨by rw [Bool.eq_false_iff.mpr (tbF c13), bI_f, nI_0], rfl⟩)
  · refine z_iconst d_Se_has_16 ic_1 ?_
    refine z_goto (tgt := 21) d_Se_has_17 (by decide) ?_
    exact z_zret rfl nz_1 d_Se_has_21 (zlq rfl) (zlq rfl) (⟨by rw [tbT c13, bI_t, nI_one], rfl⟩)
def cPt (S : zSt) (m n : Nat) : Int32 := zit (fun c z => z ||| S 20 (6 * (21 * (m) + (c)) + n)) 21 (nI 0)
abbrev rm_Se_points : Room := { frames := 4, cells := 0, slots := 0, locals := 86 }
set_option maxHeartbeats 4000000 in
set_option maxRecDepth 100000 in
theorem c_Se_points (l : Launch) (E : zE) {A : rl → Nat} {K : Nat → Nat → Nat} (hA : cIj K A) (X S R : zSt) (m n : Nat) (hm : m < 10) (hn : n < 6) : zM l E y_Se_points b_Se_points 5 ((some .int)) rm_Se_points [.ref (A (9, 0)), .int (nI m), .int (nI n)] (cp E A K X S R) (zPi (cPt S m n) (cp E A K X S R)) := by
  refine zM_w (by decide +kernel) rfl rfl (fun sz => ?_)
  refine z_iconst d_Se_points_0 ic_0 ?_
  refine z_istore_n d_Se_points_1 (zlt rfl) ?_
  refine z_iconst d_Se_points_2 ic_0 ?_
  refine z_istore d_Se_points_3 (zlt rfl) ?_
  refine zlp (Gh := fun (kz : Nat) (Z : Int32) => zG (zcx l E b_Se_points "PointsToRounds$Sets" 5 ((some .int)) false rm_Se_points (cp E A K X S R) sz (zPi (cPt S m n) (cp E A K X S R))) 0 0 5 [some (.ref (A (9, 0))), some (.int (nI (m))), some (.int (nI (n))), some (.int (Z)), some (.int (nI (kz)))] [] (cp E A K X S R)) (f := fun c z => z ||| S 20 (6 * (21 * (m) + (c)) + n)) (N := 21) (x0 := (nI 0)) ?_ ?_
  rotate_left
  · intro c hc ihc
    generalize zit _ c _ = Zc at ihc ⊢
    show zG (zcx l E b_Se_points "PointsToRounds$Sets" 5 ((some .int)) false rm_Se_points (cp E A K X S R) sz (zPi (cPt S m n) (cp E A K X S R))) 0 0 5 [some (.ref (A (9, 0))), some (.int (nI (m))), some (.int (nI (n))), some (.int (Zc)), some (.int (nI (c)))] [] (cp E A K X S R)
    try dsimp only at ihc
    refine z_iload d_Se_points_5 rfl ?_
    refine z_bipush d_Se_points_7 bp_21 ?_
    refine z_icmp_ge (tgt := 35) d_Se_points_9 (by decide) (fun c9 => absurd c9 (nI_ge hc (by omega))) (fun c9 => ?_)
    have c9n := (not_congr (nI_leI (by omega) (by omega))).mp c9
    refine z_iload_n d_Se_points_12 rfl ?_
    refine z_aload_n d_Se_points_13 rfl ?_
    refine z_iload_n d_Se_points_14 rfl ?_
    refine z_iload d_Se_points_15 rfl ?_
    refine z_cVr (c_Se_body l E hA _ _ _ (m) (c) (by omega) (by omega)) cb_Se_body ci_Se_body ln_Se_76 (cp_9 hA) rfl rfl (zlq rfl) rfl (zlq rfl) (zlq rfl) d_Se_points_17 ?_
    refine z_rf ?_
    refine z_iload_n d_Se_points_20 rfl ?_
    refine z_cVr (c_name l E hA _ _ _ (21 * (m) + (c)) (n) (by omega) (by omega)) cb_Bo_name ci_Bo_name ln_Se_65 (cp_19 hA (j := 21 * (m) + (c)) (by omega)) rfl rfl (zlq rfl) rfl (zlq rfl) (zlq rfl) d_Se_points_21 ?_
    refine z_rf ?_
    refine z_get fa_Se_123 d_Se_points_24 (cp_22 hA (j := 6 * (21 * (m) + (c)) + n) (by omega)) rfl ?_
    refine z_ior d_Se_points_27 ?_
    refine z_istore_n d_Se_points_28 (zlt rfl) ?_
    refine z_iinc (v := nI (c + 1)) d_Se_points_29 (zlt rfl) rfl (zinc _) ?_
    refine z_goto (tgt := 5) d_Se_points_32 (by decide) ?_
    exact ihc
  show zG (zcx l E b_Se_points "PointsToRounds$Sets" 5 ((some .int)) false rm_Se_points (cp E A K X S R) sz (zPi (cPt S m n) (cp E A K X S R))) 0 0 5 [some (.ref (A (9, 0))), some (.int (nI (m))), some (.int (nI (n))), some (.int ((zit (fun c z => z ||| S 20 (6 * (21 * (m) + (c)) + n)) (21) (nI 0)))), some (.int (nI 21))] [] (cp E A K X S R)
  refine z_iload d_Se_points_5 rfl ?_
  refine z_bipush d_Se_points_7 bp_21 ?_
  refine z_icmp_ge (tgt := 35) d_Se_points_9 (by decide) (fun c9 => ?_) (fun c9 => absurd (by decide +kernel) c9)
  refine z_iload_n d_Se_points_35 rfl ?_
  exact z_iret rfl d_Se_points_36 (zlq rfl) (zlq rfl) (⟨rfl, rfl⟩)
def cN1 (m n : Nat) (fr : Int32) (o : Nat) (S : zSt) : zSt := if tb fr o = true then (if 0 ≤ S 30 (20 * (6 * m + n) + o) then S else va_up S 30 (upd (S 30) (20 * (6 * m + n) + o) (S 31 0))) else S
def cNt (X : zSt) (m n : Nat) (fr : Int32) (S : zSt) : zSt := zit (fun o S => cN1 m n fr o S) (cn X 16) S
abbrev rm_Se_note : Room := { frames := 0, cells := 0, slots := 0, locals := 0 }
set_option maxHeartbeats 4000000 in
set_option maxRecDepth 100000 in
theorem c_Se_note (l : Launch) (E : zE) {A : rl → Nat} {K : Nat → Nat → Nat} (hA : cIj K A) (X S R : zSt) (hX : tInv X) (m n : Nat) (hm : m < 10) (hn : n < 6) (fr : Int32) : zM l E y_Se_note b_Se_note 6 (none) rm_Se_note [.ref (A (9, 0)), .int (nI m), .int (nI n), .int fr] (cp E A K X S R) (zPv (cp E A K X (cNt X m n fr S) R)) := by
  refine zM_w (by decide +kernel) rfl rfl (fun sz => ?_)
  obtain ⟨⟨⟨h0, b0⟩, ⟨h2, b2⟩, ⟨h4, b4⟩, ⟨h7, b7⟩, ⟨h16, b16⟩⟩, h18, h19, hp, hf0, hs, hst⟩ := id hX
  refine z_iconst d_Se_note_0 ic_0 ?_
  refine z_istore d_Se_note_1 (zlt rfl) ?_
  refine zlp (Gh := fun (kz : Nat) (Z : zSt) => zG (zcx l E b_Se_note "PointsToRounds$Sets" 6 (none) false rm_Se_note (cp E A K X S R) sz (zPv (cp E A K X (cNt X m n fr S) R))) 0 0 3 [some (.ref (A (9, 0))), some (.int (nI (m))), some (.int (nI (n))), some (.int (fr)), some (.int (nI (kz))), none] [] (cp E A K X Z R)) (f := fun o S => cN1 m n fr o S) (N := cn X 16) (x0 := S) ?_ ?_
  rotate_left
  · intro o ho iho
    generalize zit _ o _ = Zo at iho ⊢
    show zG (zcx l E b_Se_note "PointsToRounds$Sets" 6 (none) false rm_Se_note (cp E A K X S R) sz (zPv (cp E A K X (cNt X m n fr S) R))) 0 0 3 [some (.ref (A (9, 0))), some (.int (nI (m))), some (.int (nI (n))), some (.int (fr)), some (.int (nI (o))), none] [] (cp E A K X Zo R)
    try dsimp only at iho
    refine z_iload d_Se_note_3 rfl ?_
    refine z_aload_n d_Se_note_5 rfl ?_
    refine z_get fa_Se_3 d_Se_note_6 (cp_9 hA) rfl ?_
    refine z_get fa_Se_91 d_Se_note_9 (cp_0 hA) rfl ?_
    refine z_top h16 ?_
    refine z_icmp_ge (tgt := 66) d_Se_note_12 (by decide) (fun c12 => absurd c12 (nI_ge ho (by omega))) (fun c12 => ?_)
    have c12n := (not_congr (nI_leI (by omega) (by omega))).mp c12
    refine z_bipush d_Se_note_15 bp_20 ?_
    refine z_bipush d_Se_note_17 bp_6 ?_
    refine z_iload_n d_Se_note_19 rfl ?_
    refine z_imul d_Se_note_20 ?_
    refine z_top (pk_mul (6) (m)) ?_
    refine z_iload_n d_Se_note_21 rfl ?_
    refine z_iadd d_Se_note_22 ?_
    refine z_top (nI_add (6 * m) (n)) ?_
    refine z_imul d_Se_note_23 ?_
    refine z_top (pk_mul (20) (6 * m + n)) ?_
    refine z_iload d_Se_note_24 rfl ?_
    refine z_iadd d_Se_note_26 ?_
    refine z_top (nI_add (20 * (6 * m + n)) (o)) ?_
    refine z_istore d_Se_note_27 (zlt rfl) ?_
    refine z_iload_n d_Se_note_29 rfl ?_
    refine z_iload d_Se_note_30 rfl ?_
    refine z_ishr d_Se_note_32 ?_
    refine z_iconst d_Se_note_33 ic_1 ?_
    refine z_iand d_Se_note_34 ?_
    refine z_iconst d_Se_note_35 ic_1 ?_
    refine z_icmp_ne (tgt := 60) d_Se_note_36 (by decide) (fun c36 => ?_) (fun c36 => ?_)
    · refine z_iinc (v := nI (o + 1)) d_Se_note_60 (zlt rfl) rfl (zinc _) ?_
      refine z_goto (tgt := 3) d_Se_note_63 (by decide) ?_
      refine z_fl 5 ?_
      unfold cN1 at iho
      rw [if_neg (tbF c36)] at iho
      exact iho
    · refine z_aload_n d_Se_note_39 rfl ?_
      refine z_get fa_Se_31 d_Se_note_40 (cp_9 hA) rfl ?_
      refine z_iload d_Se_note_43 rfl ?_
      refine z_iald (20 * (6 * m + n) + o) d_Se_note_45 (cp_10 hA) rfl (show 20 * (6 * m + n) + o < 1200 from by omega) (by decide) ?_
      refine z_if_ge (tgt := 60) d_Se_note_46 (by decide) (fun c46 => ?_) (fun c46 => ?_)
      · refine z_iinc (v := nI (o + 1)) d_Se_note_60 (zlt rfl) rfl (zinc _) ?_
        refine z_goto (tgt := 3) d_Se_note_63 (by decide) ?_
        refine z_fl 5 ?_
        unfold cN1 at iho
        rw [if_pos (tbT c36), if_pos c46] at iho
        exact iho
      · refine z_aload_n d_Se_note_49 rfl ?_
        refine z_get fa_Se_31 d_Se_note_50 (cp_9 hA) rfl ?_
        refine z_iload d_Se_note_53 rfl ?_
        refine z_aload_n d_Se_note_55 rfl ?_
        refine z_get fa_Se_94 d_Se_note_56 (cp_9 hA) rfl ?_
        refine z_iast (20 * (6 * m + n) + o) d_Se_note_59 (cp_10 hA) rfl (show 20 * (6 * m + n) + o < 1200 from by omega) (by decide) ?_
        refine z_eqh (cp_p10 hA) ?_
        refine z_iinc (v := nI (o + 1)) d_Se_note_60 (zlt rfl) rfl (zinc _) ?_
        refine z_goto (tgt := 3) d_Se_note_63 (by decide) ?_
        refine z_fl 5 ?_
        unfold cN1 at iho
        rw [if_pos (tbT c36), if_neg c46] at iho
        exact iho
  show zG (zcx l E b_Se_note "PointsToRounds$Sets" 6 (none) false rm_Se_note (cp E A K X S R) sz (zPv (cp E A K X (cNt X m n fr S) R))) 0 0 3 [some (.ref (A (9, 0))), some (.int (nI (m))), some (.int (nI (n))), some (.int (fr)), some (.int (nI (cn X 16))), none] [] (cp E A K X (zit (fun o S => cN1 m n fr o S) (cn X 16) S) R)
  refine z_iload d_Se_note_3 rfl ?_
  refine z_aload_n d_Se_note_5 rfl ?_
  refine z_get fa_Se_3 d_Se_note_6 (cp_9 hA) rfl ?_
  refine z_get fa_Se_91 d_Se_note_9 (cp_0 hA) rfl ?_
  refine z_top h16 ?_
  refine z_icmp_ge (tgt := 66) d_Se_note_12 (by decide) (fun c12 => ?_) (fun c12 => absurd (nI_le (Nat.le_refl _) (by omega)) c12)
  have c12n := (nI_leI (by omega) (by omega)).mp c12
  exact z_vret rfl d_Se_note_66 (zlq rfl) (zlq rfl) (⟨rfl, rfl⟩)
def cC1 (b : Nat) (S : zSt) : zSt := zit (fun n S => cSet S 20 (6 * b + n) (nI 0) (nI 0) (nI 0)) 6 (cu (cu (cu S 70 b (nI 0)) 71 b (nI 0)) 72 b (nI 0))
def cCz (a N : Nat) (S : zSt) : zSt := zit (fun k S => cSet S a k (nI 0) (nI 0) (nI 0)) N S
def cClr (S : zSt) : zSt := zit (fun k S => va_up S 30 (upd (S 30) k (-1))) 1200 (cCz 26 4 (cCz 24 20 (cCz 22 160 (zit (fun b S => cC1 b S) 210 S))))
abbrev rm_Se_clear : Room := { frames := 4, cells := 0, slots := 0, locals := 85 }
set_option maxHeartbeats 4000000 in
set_option maxRecDepth 100000 in
theorem c_Se_clear (l : Launch) (E : zE) {A : rl → Nat} {K : Nat → Nat → Nat} (hA : cIj K A) (X S R : zSt) : zM l E y_Se_clear b_Se_clear 4 (none) rm_Se_clear [.ref (A (9, 0))] (cp E A K X S R) (zPv (cp E A K X (cClr S) R)) := by
  refine zM_w (by decide +kernel) rfl rfl (fun sz => ?_)
  refine z_iconst d_Se_clear_0 ic_0 ?_
  refine z_istore_n d_Se_clear_1 (zlt rfl) ?_
  refine zlp (Gh := fun (kz : Nat) (Z : zSt) => zG (zcx l E b_Se_clear "PointsToRounds$Sets" 4 (none) false rm_Se_clear (cp E A K X S R) sz (zPv (cp E A K X (cClr S) R))) 0 0 2 [some (.ref (A (9, 0))), some (.int (nI (kz))), none, none] [] (cp E A K X Z R)) (f := fun b S => cC1 b S) (N := 210) (x0 := S) ?_ ?_
  rotate_left
  · intro b hb ihb
    generalize zit _ b _ = Zb at ihb ⊢
    show zG (zcx l E b_Se_clear "PointsToRounds$Sets" 4 (none) false rm_Se_clear (cp E A K X S R) sz (zPv (cp E A K X (cClr S) R))) 0 0 2 [some (.ref (A (9, 0))), some (.int (nI (b))), none, none] [] (cp E A K X Zb R)
    try dsimp only at ihb
    refine z_iload_n d_Se_clear_2 rfl ?_
    refine z_aload_n d_Se_clear_3 rfl ?_
    refine z_get fa_Se_18 d_Se_clear_4 (cp_9 hA) rfl ?_
    refine z_cFi (c_size11_0 l E hA _ _ _) cb_AL_size cf_size k_473 (cp_11 hA (j := 0) (by omega)) rfl rfl (zlq rfl) rfl (zlq rfl) (zlq rfl) d_Se_clear_7 ?_
    refine z_icmp_ge (tgt := 72) d_Se_clear_12 (by decide) (fun c12 => absurd c12 (nI_ge hb (by omega))) (fun c12 => ?_)
    have c12n := (not_congr (nI_leI (by omega) (by omega))).mp c12
    refine z_aload_n d_Se_clear_15 rfl ?_
    refine z_get fa_Se_18 d_Se_clear_16 (cp_9 hA) rfl ?_
    refine z_iload_n d_Se_clear_19 rfl ?_
    refine z_cFr (c_get11_0 l E hA _ _ _ (b) (by omega)) cb_AL_get cf_get k_475 (cp_11 hA (j := 0) (by omega)) rfl rfl (zlq rfl) rfl (zlq rfl) (zlq rfl) d_Se_clear_20 ?_
    refine z_rf ?_
    refine z_cast (r := (R_Bo, F_Bo, 4)) rfl k_122 k_1142 (cp_19 hA (j := b) (by omega)) d_Se_clear_25 ?_
    refine z_astore_n d_Se_clear_28 (zlt rfl) ?_
    refine z_aload_n d_Se_clear_29 rfl ?_
    refine z_iconst d_Se_clear_30 ic_0 ?_
    refine z_put fp_Se_55 d_Se_clear_31 (cp_19 hA (j := b) (by omega)) (z_nb nz_0) (z_fb nz_0) (zlt rfl) ?_
    refine z_eqh (cp_p19_0 hA (by omega) nz_0) ?_
    refine z_aload_n d_Se_clear_34 rfl ?_
    refine z_iconst d_Se_clear_35 ic_0 ?_
    refine z_put fp_Se_59 d_Se_clear_36 (cp_19 hA (j := b) (by omega)) (z_nb nz_0) (z_fb nz_0) (zlt rfl) ?_
    refine z_eqh (cp_p19_1 hA (by omega) nz_0) ?_
    refine z_aload_n d_Se_clear_39 rfl ?_
    refine z_iconst d_Se_clear_40 ic_0 ?_
    refine z_put fp_Se_62 d_Se_clear_41 (cp_19 hA (j := b) (by omega)) (z_nb nz_0) (z_fb nz_0) (zlt rfl) ?_
    refine z_eqh (cp_p19_2 hA (by omega) nz_0) ?_
    refine z_iconst d_Se_clear_44 ic_0 ?_
    refine z_istore_n d_Se_clear_45 (zlt rfl) ?_
    refine zlp (Gh := fun (kz : Nat) (Z : zSt) => zG (zcx l E b_Se_clear "PointsToRounds$Sets" 4 (none) false rm_Se_clear (cp E A K X S R) sz (zPv (cp E A K X (cClr S) R))) 0 0 46 [some (.ref (A (9, 0))), some (.int (nI (b))), some (.ref (A (19, b))), some (.int (nI (kz)))] [] (cp E A K X Z R)) (f := fun n S => cSet S 20 (6 * b + n) (nI 0) (nI 0) (nI 0)) (N := 6) (x0 := (cu (cu (cu Zb 70 (b) (nI 0)) 71 (b) (nI 0)) 72 (b) (nI 0))) ?_ ?_
    rotate_left
    · intro n hn ihn
      generalize zit _ n _ = Zn at ihn ⊢
      show zG (zcx l E b_Se_clear "PointsToRounds$Sets" 4 (none) false rm_Se_clear (cp E A K X S R) sz (zPv (cp E A K X (cClr S) R))) 0 0 46 [some (.ref (A (9, 0))), some (.int (nI (b))), some (.ref (A (19, b))), some (.int (nI (n)))] [] (cp E A K X Zn R)
      try dsimp only at ihn
      refine z_iload_n d_Se_clear_46 rfl ?_
      refine z_bipush d_Se_clear_47 bp_6 ?_
      refine z_icmp_ge (tgt := 66) d_Se_clear_49 (by decide) (fun c49 => absurd c49 (nI_ge hn (by omega))) (fun c49 => ?_)
      have c49n := (not_congr (nI_leI (by omega) (by omega))).mp c49
      refine z_aload_n d_Se_clear_52 rfl ?_
      refine z_iload_n d_Se_clear_53 rfl ?_
      refine z_cVr (c_name l E hA _ _ _ (b) (n) (by omega) (by omega)) cb_Bo_name ci_Bo_name ln_Se_65 (cp_19 hA (j := b) (by omega)) rfl rfl (zlq rfl) rfl (zlq rfl) (zlq rfl) d_Se_clear_54 ?_
      refine z_rf ?_
      refine z_cVv (c_clr22 l E hA _ _ _ (6 * b + n) (by omega)) cb_Ce_clear ci_Ce_clear ln_Se_69 (cp_22 hA (j := 6 * b + n) (by omega)) rfl rfl (zlq rfl) rfl (zlq rfl) (zlq rfl) d_Se_clear_57 ?_
      refine z_iinc (v := nI (n + 1)) d_Se_clear_60 (zlt rfl) rfl (zinc _) ?_
      refine z_goto (tgt := 46) d_Se_clear_63 (by decide) ?_
      exact ihn
    show zG (zcx l E b_Se_clear "PointsToRounds$Sets" 4 (none) false rm_Se_clear (cp E A K X S R) sz (zPv (cp E A K X (cClr S) R))) 0 0 46 [some (.ref (A (9, 0))), some (.int (nI (b))), some (.ref (A (19, b))), some (.int (nI 6))] [] (cp E A K X (zit (fun n S => cSet S 20 (6 * b + n) (nI 0) (nI 0) (nI 0)) (6) (cu (cu (cu Zb 70 (b) (nI 0)) 71 (b) (nI 0)) 72 (b) (nI 0))) R)
    refine z_iload_n d_Se_clear_46 rfl ?_
    refine z_bipush d_Se_clear_47 bp_6 ?_
    refine z_icmp_ge (tgt := 66) d_Se_clear_49 (by decide) (fun c49 => ?_) (fun c49 => absurd (by decide +kernel) c49)
    refine z_iinc (v := nI (b + 1)) d_Se_clear_66 (zlt rfl) rfl (zinc _) ?_
    refine z_goto (tgt := 2) d_Se_clear_69 (by decide) ?_
    refine z_fl 2 ?_
    refine z_fl 3 ?_
    exact ihb
  show zG (zcx l E b_Se_clear "PointsToRounds$Sets" 4 (none) false rm_Se_clear (cp E A K X S R) sz (zPv (cp E A K X (cClr S) R))) 0 0 2 [some (.ref (A (9, 0))), some (.int (nI 210)), none, none] [] (cp E A K X (zit (fun b S => cC1 b S) (210) S) R)
  refine z_iload_n d_Se_clear_2 rfl ?_
  refine z_aload_n d_Se_clear_3 rfl ?_
  refine z_get fa_Se_18 d_Se_clear_4 (cp_9 hA) rfl ?_
  refine z_cFi (c_size11_0 l E hA _ _ _) cb_AL_size cf_size k_473 (cp_11 hA (j := 0) (by omega)) rfl rfl (zlq rfl) rfl (zlq rfl) (zlq rfl) d_Se_clear_7 ?_
  refine z_icmp_ge (tgt := 72) d_Se_clear_12 (by decide) (fun c12 => ?_) (fun c12 => absurd (by decide +kernel) c12)
  refine z_iconst d_Se_clear_72 ic_0 ?_
  refine z_istore_n d_Se_clear_73 (zlt rfl) ?_
  refine zlp (Gh := fun (kz : Nat) (Z : zSt) => zG (zcx l E b_Se_clear "PointsToRounds$Sets" 4 (none) false rm_Se_clear (cp E A K X S R) sz (zPv (cp E A K X (cClr S) R))) 0 0 74 [some (.ref (A (9, 0))), some (.int (nI (kz))), none, none] [] (cp E A K X Z R)) (f := fun k S => cSet S 22 k (nI 0) (nI 0) (nI 0)) (N := 160) (x0 := (zit (fun b S => cC1 b S) (210) S)) ?_ ?_
  rotate_left
  · intro f hf ihf
    generalize zit _ f _ = Zf at ihf ⊢
    show zG (zcx l E b_Se_clear "PointsToRounds$Sets" 4 (none) false rm_Se_clear (cp E A K X S R) sz (zPv (cp E A K X (cClr S) R))) 0 0 74 [some (.ref (A (9, 0))), some (.int (nI (f))), none, none] [] (cp E A K X Zf R)
    try dsimp only at ihf
    refine z_iload_n d_Se_clear_74 rfl ?_
    refine z_aload_n d_Se_clear_75 rfl ?_
    refine z_get fa_Se_22 d_Se_clear_76 (cp_9 hA) rfl ?_
    refine z_cFi (c_size11_1 l E hA _ _ _) cb_AL_size cf_size k_473 (cp_11 hA (j := 1) (by omega)) rfl rfl (zlq rfl) rfl (zlq rfl) (zlq rfl) d_Se_clear_79 ?_
    refine z_icmp_ge (tgt := 109) d_Se_clear_84 (by decide) (fun c84 => absurd c84 (nI_ge hf (by omega))) (fun c84 => ?_)
    have c84n := (not_congr (nI_leI (by omega) (by omega))).mp c84
    refine z_aload_n d_Se_clear_87 rfl ?_
    refine z_get fa_Se_22 d_Se_clear_88 (cp_9 hA) rfl ?_
    refine z_iload_n d_Se_clear_91 rfl ?_
    refine z_cFr (c_get11_1 l E hA _ _ _ (f) (by omega)) cb_AL_get cf_get k_475 (cp_11 hA (j := 1) (by omega)) rfl rfl (zlq rfl) rfl (zlq rfl) (zlq rfl) d_Se_clear_92 ?_
    refine z_rf ?_
    refine z_cast (r := (R_Ce, F_Ce, 3)) rfl k_230 k_1143 (cp_23 hA (j := f) (by omega)) d_Se_clear_97 ?_
    refine z_cVv (c_clr23 l E hA _ _ _ (f) (by omega)) cb_Ce_clear ci_Ce_clear ln_Se_69 (cp_23 hA (j := f) (by omega)) rfl rfl (zlq rfl) rfl (zlq rfl) (zlq rfl) d_Se_clear_100 ?_
    refine z_iinc (v := nI (f + 1)) d_Se_clear_103 (zlt rfl) rfl (zinc _) ?_
    refine z_goto (tgt := 74) d_Se_clear_106 (by decide) ?_
    exact ihf
  show zG (zcx l E b_Se_clear "PointsToRounds$Sets" 4 (none) false rm_Se_clear (cp E A K X S R) sz (zPv (cp E A K X (cClr S) R))) 0 0 74 [some (.ref (A (9, 0))), some (.int (nI 160)), none, none] [] (cp E A K X (zit (fun k S => cSet S 22 k (nI 0) (nI 0) (nI 0)) (160) (zit (fun b S => cC1 b S) (210) S)) R)
  refine z_iload_n d_Se_clear_74 rfl ?_
  refine z_aload_n d_Se_clear_75 rfl ?_
  refine z_get fa_Se_22 d_Se_clear_76 (cp_9 hA) rfl ?_
  refine z_cFi (c_size11_1 l E hA _ _ _) cb_AL_size cf_size k_473 (cp_11 hA (j := 1) (by omega)) rfl rfl (zlq rfl) rfl (zlq rfl) (zlq rfl) d_Se_clear_79 ?_
  refine z_icmp_ge (tgt := 109) d_Se_clear_84 (by decide) (fun c84 => ?_) (fun c84 => absurd (by decide +kernel) c84)
  refine z_iconst d_Se_clear_109 ic_0 ?_
  refine z_istore_n d_Se_clear_110 (zlt rfl) ?_
  refine zlp (Gh := fun (kz : Nat) (Z : zSt) => zG (zcx l E b_Se_clear "PointsToRounds$Sets" 4 (none) false rm_Se_clear (cp E A K X S R) sz (zPv (cp E A K X (cClr S) R))) 0 0 111 [some (.ref (A (9, 0))), some (.int (nI (kz))), none, none] [] (cp E A K X Z R)) (f := fun k S => cSet S 24 k (nI 0) (nI 0) (nI 0)) (N := 20) (x0 := (zit (fun k S => cSet S 22 k (nI 0) (nI 0) (nI 0)) (160) (zit (fun b S => cC1 b S) (210) S))) ?_ ?_
  rotate_left
  · intro e he ihe
    generalize zit _ e _ = Ze at ihe ⊢
    show zG (zcx l E b_Se_clear "PointsToRounds$Sets" 4 (none) false rm_Se_clear (cp E A K X S R) sz (zPv (cp E A K X (cClr S) R))) 0 0 111 [some (.ref (A (9, 0))), some (.int (nI (e))), none, none] [] (cp E A K X Ze R)
    try dsimp only at ihe
    refine z_iload_n d_Se_clear_111 rfl ?_
    refine z_bipush d_Se_clear_112 bp_20 ?_
    refine z_icmp_ge (tgt := 139) d_Se_clear_114 (by decide) (fun c114 => absurd c114 (nI_ge he (by omega))) (fun c114 => ?_)
    have c114n := (not_congr (nI_leI (by omega) (by omega))).mp c114
    refine z_aload_n d_Se_clear_117 rfl ?_
    refine z_get fa_Se_25 d_Se_clear_118 (cp_9 hA) rfl ?_
    refine z_iload_n d_Se_clear_121 rfl ?_
    refine z_cFr (c_get11_2 l E hA _ _ _ (e) (by omega)) cb_AL_get cf_get k_475 (cp_11 hA (j := 2) (by omega)) rfl rfl (zlq rfl) rfl (zlq rfl) (zlq rfl) d_Se_clear_122 ?_
    refine z_rf ?_
    refine z_cast (r := (R_Ce, F_Ce, 3)) rfl k_230 k_1143 (cp_24 hA (j := e) (by omega)) d_Se_clear_127 ?_
    refine z_cVv (c_clr24 l E hA _ _ _ (e) (by omega)) cb_Ce_clear ci_Ce_clear ln_Se_69 (cp_24 hA (j := e) (by omega)) rfl rfl (zlq rfl) rfl (zlq rfl) (zlq rfl) d_Se_clear_130 ?_
    refine z_iinc (v := nI (e + 1)) d_Se_clear_133 (zlt rfl) rfl (zinc _) ?_
    refine z_goto (tgt := 111) d_Se_clear_136 (by decide) ?_
    exact ihe
  show zG (zcx l E b_Se_clear "PointsToRounds$Sets" 4 (none) false rm_Se_clear (cp E A K X S R) sz (zPv (cp E A K X (cClr S) R))) 0 0 111 [some (.ref (A (9, 0))), some (.int (nI 20)), none, none] [] (cp E A K X (zit (fun k S => cSet S 24 k (nI 0) (nI 0) (nI 0)) (20) (zit (fun k S => cSet S 22 k (nI 0) (nI 0) (nI 0)) (160) (zit (fun b S => cC1 b S) (210) S))) R)
  refine z_iload_n d_Se_clear_111 rfl ?_
  refine z_bipush d_Se_clear_112 bp_20 ?_
  refine z_icmp_ge (tgt := 139) d_Se_clear_114 (by decide) (fun c114 => ?_) (fun c114 => absurd (by decide +kernel) c114)
  refine z_iconst d_Se_clear_139 ic_0 ?_
  refine z_istore_n d_Se_clear_140 (zlt rfl) ?_
  refine zlp (Gh := fun (kz : Nat) (Z : zSt) => zG (zcx l E b_Se_clear "PointsToRounds$Sets" 4 (none) false rm_Se_clear (cp E A K X S R) sz (zPv (cp E A K X (cClr S) R))) 0 0 141 [some (.ref (A (9, 0))), some (.int (nI (kz))), none, none] [] (cp E A K X Z R)) (f := fun k S => cSet S 26 k (nI 0) (nI 0) (nI 0)) (N := 4) (x0 := (zit (fun k S => cSet S 24 k (nI 0) (nI 0) (nI 0)) (20) (zit (fun k S => cSet S 22 k (nI 0) (nI 0) (nI 0)) (160) (zit (fun b S => cC1 b S) (210) S)))) ?_ ?_
  rotate_left
  · intro t ht iht
    generalize zit _ t _ = Zt at iht ⊢
    show zG (zcx l E b_Se_clear "PointsToRounds$Sets" 4 (none) false rm_Se_clear (cp E A K X S R) sz (zPv (cp E A K X (cClr S) R))) 0 0 141 [some (.ref (A (9, 0))), some (.int (nI (t))), none, none] [] (cp E A K X Zt R)
    try dsimp only at iht
    refine z_iload_n d_Se_clear_141 rfl ?_
    refine z_iconst d_Se_clear_142 ic_4 ?_
    refine z_icmp_ge (tgt := 168) d_Se_clear_143 (by decide) (fun c143 => absurd c143 (nI_ge ht (by omega))) (fun c143 => ?_)
    have c143n := (not_congr (nI_leI (by omega) (by omega))).mp c143
    refine z_aload_n d_Se_clear_146 rfl ?_
    refine z_get fa_Se_28 d_Se_clear_147 (cp_9 hA) rfl ?_
    refine z_iload_n d_Se_clear_150 rfl ?_
    refine z_cFr (c_get11_3 l E hA _ _ _ (t) (by omega)) cb_AL_get cf_get k_475 (cp_11 hA (j := 3) (by omega)) rfl rfl (zlq rfl) rfl (zlq rfl) (zlq rfl) d_Se_clear_151 ?_
    refine z_rf ?_
    refine z_cast (r := (R_Ce, F_Ce, 3)) rfl k_230 k_1143 (cp_25 hA (j := t) (by omega)) d_Se_clear_156 ?_
    refine z_cVv (c_clr25 l E hA _ _ _ (t) (by omega)) cb_Ce_clear ci_Ce_clear ln_Se_69 (cp_25 hA (j := t) (by omega)) rfl rfl (zlq rfl) rfl (zlq rfl) (zlq rfl) d_Se_clear_159 ?_
    refine z_iinc (v := nI (t + 1)) d_Se_clear_162 (zlt rfl) rfl (zinc _) ?_
    refine z_goto (tgt := 141) d_Se_clear_165 (by decide) ?_
    exact iht
  show zG (zcx l E b_Se_clear "PointsToRounds$Sets" 4 (none) false rm_Se_clear (cp E A K X S R) sz (zPv (cp E A K X (cClr S) R))) 0 0 141 [some (.ref (A (9, 0))), some (.int (nI 4)), none, none] [] (cp E A K X (zit (fun k S => cSet S 26 k (nI 0) (nI 0) (nI 0)) (4) (zit (fun k S => cSet S 24 k (nI 0) (nI 0) (nI 0)) (20) (zit (fun k S => cSet S 22 k (nI 0) (nI 0) (nI 0)) (160) (zit (fun b S => cC1 b S) (210) S)))) R)
  refine z_iload_n d_Se_clear_141 rfl ?_
  refine z_iconst d_Se_clear_142 ic_4 ?_
  refine z_icmp_ge (tgt := 168) d_Se_clear_143 (by decide) (fun c143 => ?_) (fun c143 => absurd (by decide +kernel) c143)
  refine z_iconst d_Se_clear_168 ic_0 ?_
  refine z_istore_n d_Se_clear_169 (zlt rfl) ?_
  refine zlp (Gh := fun (kz : Nat) (Z : zSt) => zG (zcx l E b_Se_clear "PointsToRounds$Sets" 4 (none) false rm_Se_clear (cp E A K X S R) sz (zPv (cp E A K X (cClr S) R))) 0 0 170 [some (.ref (A (9, 0))), some (.int (nI (kz))), none, none] [] (cp E A K X Z R)) (f := fun k S => va_up S 30 (upd (S 30) k (-1))) (N := 1200) (x0 := (zit (fun k S => cSet S 26 k (nI 0) (nI 0) (nI 0)) (4) (zit (fun k S => cSet S 24 k (nI 0) (nI 0) (nI 0)) (20) (zit (fun k S => cSet S 22 k (nI 0) (nI 0) (nI 0)) (160) (zit (fun b S => cC1 b S) (210) S))))) ?_ ?_
  rotate_left
  · intro g hg ihg
    generalize zit _ g _ = Zg at ihg ⊢
    show zG (zcx l E b_Se_clear "PointsToRounds$Sets" 4 (none) false rm_Se_clear (cp E A K X S R) sz (zPv (cp E A K X (cClr S) R))) 0 0 170 [some (.ref (A (9, 0))), some (.int (nI (g))), none, none] [] (cp E A K X Zg R)
    try dsimp only at ihg
    refine z_iload_n d_Se_clear_170 rfl ?_
    refine z_aload_n d_Se_clear_171 rfl ?_
    refine z_get fa_Se_31 d_Se_clear_172 (cp_9 hA) rfl ?_
    refine z_alenI d_Se_clear_175 (cp_10 hA) ?_
    refine z_icmp_ge (tgt := 192) d_Se_clear_176 (by decide) (fun c176 => absurd c176 (nI_ge hg (by omega))) (fun c176 => ?_)
    have c176n := (not_congr (nI_leI (by omega) (by omega))).mp c176
    refine z_aload_n d_Se_clear_179 rfl ?_
    refine z_get fa_Se_31 d_Se_clear_180 (cp_9 hA) rfl ?_
    refine z_iload_n d_Se_clear_183 rfl ?_
    refine z_iconst (v := -1) d_Se_clear_184 ic_m1 ?_
    refine z_iast (g) d_Se_clear_185 (cp_10 hA) rfl (show g < 1200 from by omega) (by decide) ?_
    refine z_eqh (cp_p10 hA) ?_
    refine z_iinc (v := nI (g + 1)) d_Se_clear_186 (zlt rfl) rfl (zinc _) ?_
    refine z_goto (tgt := 170) d_Se_clear_189 (by decide) ?_
    exact ihg
  show zG (zcx l E b_Se_clear "PointsToRounds$Sets" 4 (none) false rm_Se_clear (cp E A K X S R) sz (zPv (cp E A K X (cClr S) R))) 0 0 170 [some (.ref (A (9, 0))), some (.int (nI 1200)), none, none] [] (cp E A K X (zit (fun k S => va_up S 30 (upd (S 30) k (-1))) (1200) (zit (fun k S => cSet S 26 k (nI 0) (nI 0) (nI 0)) (4) (zit (fun k S => cSet S 24 k (nI 0) (nI 0) (nI 0)) (20) (zit (fun k S => cSet S 22 k (nI 0) (nI 0) (nI 0)) (160) (zit (fun b S => cC1 b S) (210) S))))) R)
  refine z_iload_n d_Se_clear_170 rfl ?_
  refine z_aload_n d_Se_clear_171 rfl ?_
  refine z_get fa_Se_31 d_Se_clear_172 (cp_9 hA) rfl ?_
  refine z_alenI d_Se_clear_175 (cp_10 hA) ?_
  refine z_icmp_ge (tgt := 192) d_Se_clear_176 (by decide) (fun c176 => ?_) (fun c176 => absurd (by decide +kernel) c176)
  exact z_vret rfl d_Se_clear_192 (zlq rfl) (zlq rfl) (⟨rfl, rfl⟩)
def cE (S : zSt) (j : Nat) : Bool := bz (S 72 j) && !bz (S 70 j)
def cT1 (S : zSt) (j : Nat) : zSt := cu S 71 j (bI (cE S j))
def cT2 (S : zSt) (j : Nat) : zSt := cu (cT1 S j) 70 j (bI (bz (cT1 S j 70 j) || bz (cT1 S j 72 j)))
def cT3 (S : zSt) (j : Nat) : zSt := cu (cT2 S j) 72 j (nI 0)
def cTn (X : zSt) (m c n : Nat) (z : Bool × zSt) : Bool × zSt := if decide (z.2 60 (6 * (21 * m + c) + n) ≠ 0) = true then (true, cNt X m n (cTu z.2 20 (6 * (21 * m + c) + n) 50 (6 * (21 * m + c) + n)) (cTu z.2 20 (6 * (21 * m + c) + n))) else (z.1, cTu z.2 20 (6 * (21 * m + c) + n))
def cTb (X : zSt) (m c : Nat) (z : Bool × zSt) : Bool × zSt := zit (fun n z => cTn X m c n z) 6 (z.1 || bz (cT3 z.2 (21 * m + c) 71 (21 * m + c)), cT3 z.2 (21 * m + c))
def cTm (X : zSt) (m : Nat) (z : Bool × zSt) : Bool × zSt := zit (fun c z => cTb X m c z) 21 z
def cTz (a N : Nat) (z : Bool × zSt) : Bool × zSt := zit (fun k z => (z.1 || decide (z.2 (a + 40) k ≠ 0), cTu z.2 a k)) N z
def cTM (X S : zSt) : Bool × zSt := zit (fun m z => cTm X m z) (cn X 4) (false, S)
def cTurn (X S : zSt) : Bool × zSt := cTz 26 4 (cTz 24 20 (cTz 22 160 (cTM X S)))
abbrev rm_Se_turn : Room := { frames := 4, cells := 0, slots := 0, locals := 86 }
set_option maxHeartbeats 4000000 in
set_option maxRecDepth 100000 in
theorem c_Se_turn (l : Launch) (E : zE) {A : rl → Nat} {K : Nat → Nat → Nat} (hA : cIj K A) (X S R : zSt) (hX : tInv X) : zM l E y_Se_turn b_Se_turn 6 ((some .boolean)) rm_Se_turn [.ref (A (9, 0))] (cp E A K X S R) (zPi (bI (cTurn X S).1) (cp E A K X (cTurn X S).2 R)) := by
  refine zM_w (by decide +kernel) rfl rfl (fun sz => ?_)
  obtain ⟨⟨⟨h0, b0⟩, ⟨h2, b2⟩, ⟨h4, b4⟩, ⟨h7, b7⟩, ⟨h16, b16⟩⟩, h18, h19, hp, hf0, hs, hst⟩ := id hX
  refine z_iconst d_Se_turn_0 ic_0 ?_
  refine z_istore_n d_Se_turn_1 (zlt rfl) ?_
  refine z_iconst d_Se_turn_2 ic_0 ?_
  refine z_istore_n d_Se_turn_3 (zlt rfl) ?_
  refine zlp (Gh := fun (kz : Nat) (Z : (Bool × zSt)) => zG (zcx l E b_Se_turn "PointsToRounds$Sets" 6 ((some .boolean)) false rm_Se_turn (cp E A K X S R) sz (zPi (bI (cTurn X S).1) (cp E A K X (cTurn X S).2 R))) 0 0 4 [some (.ref (A (9, 0))), some (.int (bI (Z.1))), some (.int (nI (kz))), none, none, none] [] (cp E A K X Z.2 R)) (f := fun m z => cTm X m z) (N := cn X 4) (x0 := (false, S)) ?_ ?_
  rotate_left
  · intro m hm ihm
    generalize zit _ m _ = Zm at ihm ⊢
    show zG (zcx l E b_Se_turn "PointsToRounds$Sets" 6 ((some .boolean)) false rm_Se_turn (cp E A K X S R) sz (zPi (bI (cTurn X S).1) (cp E A K X (cTurn X S).2 R))) 0 0 4 [some (.ref (A (9, 0))), some (.int (bI (Zm.1))), some (.int (nI (m))), none, none, none] [] (cp E A K X Zm.2 R)
    try dsimp only at ihm
    refine z_iload_n d_Se_turn_4 rfl ?_
    refine z_aload_n d_Se_turn_5 rfl ?_
    refine z_get fa_Se_3 d_Se_turn_6 (cp_9 hA) rfl ?_
    refine z_get fa_Se_72 d_Se_turn_9 (cp_0 hA) rfl ?_
    refine z_top h4 ?_
    refine z_icmp_ge (tgt := 149) d_Se_turn_12 (by decide) (fun c12 => absurd c12 (nI_ge hm (by omega))) (fun c12 => ?_)
    have c12n := (not_congr (nI_leI (by omega) (by omega))).mp c12
    refine z_iconst d_Se_turn_15 ic_0 ?_
    refine z_istore_n d_Se_turn_16 (zlt rfl) ?_
    refine zlp (Gh := fun (kz : Nat) (Z : (Bool × zSt)) => zG (zcx l E b_Se_turn "PointsToRounds$Sets" 6 ((some .boolean)) false rm_Se_turn (cp E A K X S R) sz (zPi (bI (cTurn X S).1) (cp E A K X (cTurn X S).2 R))) 0 0 17 [some (.ref (A (9, 0))), some (.int (bI (Z.1))), some (.int (nI (m))), some (.int (nI (kz))), none, none] [] (cp E A K X Z.2 R)) (f := fun c z => cTb X m c z) (N := 21) (x0 := Zm) ?_ ?_
    rotate_left
    · intro c hc ihc
      generalize zit _ c _ = Zc at ihc ⊢
      show zG (zcx l E b_Se_turn "PointsToRounds$Sets" 6 ((some .boolean)) false rm_Se_turn (cp E A K X S R) sz (zPi (bI (cTurn X S).1) (cp E A K X (cTurn X S).2 R))) 0 0 17 [some (.ref (A (9, 0))), some (.int (bI (Zc.1))), some (.int (nI (m))), some (.int (nI (c))), none, none] [] (cp E A K X Zc.2 R)
      try dsimp only at ihc
      refine z_iload_n d_Se_turn_17 rfl ?_
      refine z_bipush d_Se_turn_18 bp_21 ?_
      refine z_icmp_ge (tgt := 143) d_Se_turn_20 (by decide) (fun c20 => absurd c20 (nI_ge hc (by omega))) (fun c20 => ?_)
      have c20n := (not_congr (nI_leI (by omega) (by omega))).mp c20
      refine z_aload_n d_Se_turn_23 rfl ?_
      refine z_iload_n d_Se_turn_24 rfl ?_
      refine z_iload_n d_Se_turn_25 rfl ?_
      refine z_cVr (c_Se_body l E hA _ _ _ (m) (c) (by omega) (by omega)) cb_Se_body ci_Se_body ln_Se_76 (cp_9 hA) rfl rfl (zlq rfl) rfl (zlq rfl) (zlq rfl) d_Se_turn_26 ?_
      refine z_rf ?_
      refine z_astore d_Se_turn_29 (zlt rfl) ?_
      refine z_aload d_Se_turn_31 rfl ?_
      refine z_aload d_Se_turn_33 rfl ?_
      refine z_get fa_Se_62 d_Se_turn_35 (cp_19 hA (j := 21 * (m) + (c)) (by omega)) rfl ?_
      suffices J38 : zG (zcx l E b_Se_turn "PointsToRounds$Sets" 6 ((some .boolean)) false rm_Se_turn (cp E A K X S R) sz (zPi (bI (cTurn X S).1) (cp E A K X (cTurn X S).2 R))) 0 0 54 [some (.ref (A (9, 0))), some (.int (bI (Zc.1))), some (.int (nI (m))), some (.int (nI (c))), some (.ref (A (19, 21 * (m) + (c)))), none] [.int (bI (bz (Zc.2 72 (21 * (m) + (c))) && !bz (Zc.2 70 (21 * (m) + (c))))), .ref (A (19, 21 * (m) + (c)))] (cp E A K X Zc.2 R) by
        refine z_if_eq (tgt := 53) d_Se_turn_38 (by decide) (fun c38 => ?_) (fun c38 => ?_)
        · have c38n := bI_e.mp c38
          refine z_iconst d_Se_turn_53 ic_0 ?_
          exact z_top (x := nI 0) (y := bI (bz (Zc.2 72 (21 * (m) + (c))) && !bz (Zc.2 70 (21 * (m) + (c))))) (by rw [show (bz (Zc.2 72 (21 * (m) + (c))) && !bz (Zc.2 70 (21 * (m) + (c)))) = false by simp [*]]; rfl) J38
        · have c38n := bI_n.mp c38
          refine z_aload d_Se_turn_41 rfl ?_
          refine z_get fa_Se_55 d_Se_turn_43 (cp_19 hA (j := 21 * (m) + (c)) (by omega)) rfl ?_
          refine z_if_ne (tgt := 53) d_Se_turn_46 (by decide) (fun c46 => ?_) (fun c46 => ?_)
          · have c46n := bI_n.mp c46
            refine z_iconst d_Se_turn_53 ic_0 ?_
            exact z_top (x := nI 0) (y := bI (bz (Zc.2 72 (21 * (m) + (c))) && !bz (Zc.2 70 (21 * (m) + (c))))) (by rw [show (bz (Zc.2 72 (21 * (m) + (c))) && !bz (Zc.2 70 (21 * (m) + (c)))) = false by simp [*]]; rfl) J38
          · have c46n := bI_e.mp c46
            refine z_iconst d_Se_turn_49 ic_1 ?_
            refine z_goto (tgt := 54) d_Se_turn_50 (by decide) ?_
            exact z_top (x := nI 1) (y := bI (bz (Zc.2 72 (21 * (m) + (c))) && !bz (Zc.2 70 (21 * (m) + (c))))) (by rw [show (bz (Zc.2 72 (21 * (m) + (c))) && !bz (Zc.2 70 (21 * (m) + (c)))) = true by simp [*]]; rfl) J38
      refine z_put fp_Se_59 d_Se_turn_54 (cp_19 hA (j := 21 * (m) + (c)) (by omega)) (z_nb (bI_z _)) (z_fb (bI_z _)) (zlt rfl) ?_
      refine z_eqh (cp_p19_1 hA (by omega) (bI_z _)) ?_
      refine z_aload d_Se_turn_57 rfl ?_
      refine z_dup d_Se_turn_59 rfl ?_
      refine z_get fa_Se_55 d_Se_turn_60 (cp_19 hA (j := 21 * (m) + (c)) (by omega)) rfl ?_
      refine z_aload d_Se_turn_63 rfl ?_
      refine z_get fa_Se_62 d_Se_turn_65 (cp_19 hA (j := 21 * (m) + (c)) (by omega)) rfl ?_
      refine z_ior d_Se_turn_68 ?_
      refine z_top (bI_or _ _) ?_
      refine z_put fp_Se_55 d_Se_turn_69 (cp_19 hA (j := 21 * (m) + (c)) (by omega)) (z_nb (bI_z _)) (z_fb (bI_z _)) (zlt rfl) ?_
      refine z_eqh (cp_p19_0 hA (by omega) (bI_z _)) ?_
      refine z_aload d_Se_turn_72 rfl ?_
      refine z_iconst d_Se_turn_74 ic_0 ?_
      refine z_put fp_Se_62 d_Se_turn_75 (cp_19 hA (j := 21 * (m) + (c)) (by omega)) (z_nb nz_0) (z_fb nz_0) (zlt rfl) ?_
      refine z_eqh (cp_p19_2 hA (by omega) nz_0) ?_
      refine z_iload_n d_Se_turn_78 rfl ?_
      refine z_aload d_Se_turn_79 rfl ?_
      refine z_get fa_Se_59 d_Se_turn_81 (cp_19 hA (j := 21 * (m) + (c)) (by omega)) rfl ?_
      refine z_ior d_Se_turn_84 ?_
      refine z_top (bI_or _ _) ?_
      refine z_istore_n d_Se_turn_85 (zlt rfl) ?_
      refine z_iconst d_Se_turn_86 ic_0 ?_
      refine z_istore d_Se_turn_87 (zlt rfl) ?_
      show zG (zcx l E b_Se_turn "PointsToRounds$Sets" 6 ((some .boolean)) false rm_Se_turn (cp E A K X S R) sz (zPi (bI (cTurn X S).1) (cp E A K X (cTurn X S).2 R))) 0 0 89 [some (.ref (A (9, 0))), some (.int (bI (((Zc.1 || bz (cT3 Zc.2 (21 * m + c) 71 (21 * m + c)), cT3 Zc.2 (21 * m + c))).1))), some (.int (nI (m))), some (.int (nI (c))), some (.ref (A (19, 21 * (m) + (c)))), some (.int (nI 0))] [] (cp E A K X ((Zc.1 || bz (cT3 Zc.2 (21 * m + c) 71 (21 * m + c)), cT3 Zc.2 (21 * m + c))).2 R)
      refine zlp (Gh := fun (kz : Nat) (Z : (Bool × zSt)) => zG (zcx l E b_Se_turn "PointsToRounds$Sets" 6 ((some .boolean)) false rm_Se_turn (cp E A K X S R) sz (zPi (bI (cTurn X S).1) (cp E A K X (cTurn X S).2 R))) 0 0 89 [some (.ref (A (9, 0))), some (.int (bI (Z.1))), some (.int (nI (m))), some (.int (nI (c))), some (.ref (A (19, 21 * (m) + (c)))), some (.int (nI (kz)))] [] (cp E A K X Z.2 R)) (f := fun n z => cTn X m c n z) (N := 6) (x0 := (Zc.1 || bz (cT3 Zc.2 (21 * m + c) 71 (21 * m + c)), cT3 Zc.2 (21 * m + c))) ?_ ?_
      rotate_left
      · intro n hn ihn
        generalize zit _ n _ = Zn at ihn ⊢
        show zG (zcx l E b_Se_turn "PointsToRounds$Sets" 6 ((some .boolean)) false rm_Se_turn (cp E A K X S R) sz (zPi (bI (cTurn X S).1) (cp E A K X (cTurn X S).2 R))) 0 0 89 [some (.ref (A (9, 0))), some (.int (bI (Zn.1))), some (.int (nI (m))), some (.int (nI (c))), some (.ref (A (19, 21 * (m) + (c)))), some (.int (nI (n)))] [] (cp E A K X Zn.2 R)
        try dsimp only at ihn
        refine z_iload d_Se_turn_89 rfl ?_
        refine z_bipush d_Se_turn_91 bp_6 ?_
        refine z_icmp_ge (tgt := 137) d_Se_turn_93 (by decide) (fun c93 => absurd c93 (nI_ge hn (by omega))) (fun c93 => ?_)
        have c93n := (not_congr (nI_leI (by omega) (by omega))).mp c93
        refine z_aload d_Se_turn_96 rfl ?_
        refine z_iload d_Se_turn_98 rfl ?_
        refine z_cVr (c_name l E hA _ _ _ (21 * (m) + (c)) (n) (by omega) (by omega)) cb_Bo_name ci_Bo_name ln_Se_65 (cp_19 hA (j := 21 * (m) + (c)) (by omega)) rfl rfl (zlq rfl) rfl (zlq rfl) (zlq rfl) d_Se_turn_100 ?_
        refine z_rf ?_
        refine z_cVi (c_turn22 l E hA _ _ _ (6 * (21 * (m) + (c)) + n) (by omega)) cb_Ce_turn ci_Ce_turn ln_Se_80 (cp_22 hA (j := 6 * (21 * (m) + (c)) + n) (by omega)) rfl rfl (zlq rfl) rfl (zlq rfl) (zlq rfl) d_Se_turn_103 ?_
        refine z_if_ne (tgt := 112) d_Se_turn_106 (by decide) (fun c106 => ?_) (fun c106 => ?_)
        · have c106n := bI_n.mp c106
          refine z_iconst d_Se_turn_112 ic_1 ?_
          refine z_istore_n d_Se_turn_113 (zlt rfl) ?_
          refine z_aload_n d_Se_turn_114 rfl ?_
          refine z_iload_n d_Se_turn_115 rfl ?_
          refine z_iload d_Se_turn_116 rfl ?_
          refine z_aload d_Se_turn_118 rfl ?_
          refine z_iload d_Se_turn_120 rfl ?_
          refine z_cVr (c_name l E hA _ _ _ (21 * (m) + (c)) (n) (by omega) (by omega)) cb_Bo_name ci_Bo_name ln_Se_65 (cp_19 hA (j := 21 * (m) + (c)) (by omega)) rfl rfl (zlq rfl) rfl (zlq rfl) (zlq rfl) d_Se_turn_122 ?_
          refine z_rf ?_
          refine z_get fa_Se_84 d_Se_turn_125 (cp_22 hA (j := 6 * (21 * (m) + (c)) + n) (by omega)) rfl ?_
          refine z_cVv (c_Se_note l E hA _ _ _ hX (m) (n) (by omega) (by omega) _) cb_Se_note ci_Se_note ln_Se_87 (cp_9 hA) rfl rfl (zlq rfl) rfl (zlq rfl) (zlq rfl) d_Se_turn_128 ?_
          refine z_iinc (v := nI (n + 1)) d_Se_turn_131 (zlt rfl) rfl (zinc _) ?_
          refine z_goto (tgt := 89) d_Se_turn_134 (by decide) ?_
          unfold cTn at ihn
          rw [if_pos c106n] at ihn
          exact ihn
        · have c106n := bI_e.mp c106
          refine z_goto (tgt := 131) d_Se_turn_109 (by decide) ?_
          refine z_iinc (v := nI (n + 1)) d_Se_turn_131 (zlt rfl) rfl (zinc _) ?_
          refine z_goto (tgt := 89) d_Se_turn_134 (by decide) ?_
          unfold cTn at ihn
          rw [if_neg (zbf c106n)] at ihn
          exact ihn
      rw [show (zit (fun n z => cTn X m c n z) (6) (Zc.1 || bz (cT3 Zc.2 (21 * m + c) 71 (21 * m + c)), cT3 Zc.2 (21 * m + c))) = (cTb X m c Zc) from rfl]
      show zG (zcx l E b_Se_turn "PointsToRounds$Sets" 6 ((some .boolean)) false rm_Se_turn (cp E A K X S R) sz (zPi (bI (cTurn X S).1) (cp E A K X (cTurn X S).2 R))) 0 0 89 [some (.ref (A (9, 0))), some (.int (bI ((cTb X m c Zc).1))), some (.int (nI (m))), some (.int (nI (c))), some (.ref (A (19, 21 * (m) + (c)))), some (.int (nI 6))] [] (cp E A K X (cTb X m c Zc).2 R)
      refine z_iload d_Se_turn_89 rfl ?_
      refine z_bipush d_Se_turn_91 bp_6 ?_
      refine z_icmp_ge (tgt := 137) d_Se_turn_93 (by decide) (fun c93 => ?_) (fun c93 => absurd (by decide +kernel) c93)
      refine z_iinc (v := nI (c + 1)) d_Se_turn_137 (zlt rfl) rfl (zinc _) ?_
      refine z_goto (tgt := 17) d_Se_turn_140 (by decide) ?_
      refine z_fl 4 ?_
      refine z_fl 5 ?_
      exact ihc
    rw [show (zit (fun c z => cTb X m c z) (21) Zm) = (cTm X m Zm) from rfl]
    show zG (zcx l E b_Se_turn "PointsToRounds$Sets" 6 ((some .boolean)) false rm_Se_turn (cp E A K X S R) sz (zPi (bI (cTurn X S).1) (cp E A K X (cTurn X S).2 R))) 0 0 17 [some (.ref (A (9, 0))), some (.int (bI ((cTm X m Zm).1))), some (.int (nI (m))), some (.int (nI 21)), none, none] [] (cp E A K X (cTm X m Zm).2 R)
    refine z_iload_n d_Se_turn_17 rfl ?_
    refine z_bipush d_Se_turn_18 bp_21 ?_
    refine z_icmp_ge (tgt := 143) d_Se_turn_20 (by decide) (fun c20 => ?_) (fun c20 => absurd (by decide +kernel) c20)
    refine z_iinc (v := nI (m + 1)) d_Se_turn_143 (zlt rfl) rfl (zinc _) ?_
    refine z_goto (tgt := 4) d_Se_turn_146 (by decide) ?_
    refine z_fl 3 ?_
    exact ihm
  rw [show (zit (fun m z => cTm X m z) (cn X 4) (false, S)) = (cTM X S) from rfl]
  show zG (zcx l E b_Se_turn "PointsToRounds$Sets" 6 ((some .boolean)) false rm_Se_turn (cp E A K X S R) sz (zPi (bI (cTurn X S).1) (cp E A K X (cTurn X S).2 R))) 0 0 4 [some (.ref (A (9, 0))), some (.int (bI ((cTM X S).1))), some (.int (nI (cn X 4))), none, none, none] [] (cp E A K X (cTM X S).2 R)
  refine z_iload_n d_Se_turn_4 rfl ?_
  refine z_aload_n d_Se_turn_5 rfl ?_
  refine z_get fa_Se_3 d_Se_turn_6 (cp_9 hA) rfl ?_
  refine z_get fa_Se_72 d_Se_turn_9 (cp_0 hA) rfl ?_
  refine z_top h4 ?_
  refine z_icmp_ge (tgt := 149) d_Se_turn_12 (by decide) (fun c12 => ?_) (fun c12 => absurd (nI_le (Nat.le_refl _) (by omega)) c12)
  have c12n := (nI_leI (by omega) (by omega)).mp c12
  refine z_iconst d_Se_turn_149 ic_0 ?_
  refine z_istore_n d_Se_turn_150 (zlt rfl) ?_
  refine zlp (Gh := fun (kz : Nat) (Z : (Bool × zSt)) => zG (zcx l E b_Se_turn "PointsToRounds$Sets" 6 ((some .boolean)) false rm_Se_turn (cp E A K X S R) sz (zPi (bI (cTurn X S).1) (cp E A K X (cTurn X S).2 R))) 0 0 151 [some (.ref (A (9, 0))), some (.int (bI (Z.1))), some (.int (nI (kz))), none, none, none] [] (cp E A K X Z.2 R)) (f := fun (k : Nat) (z : Bool × zSt) => (z.1 || decide (z.2 (22 + 40) k ≠ 0), cTu z.2 22 k)) (N := 160) (x0 := (cTM X S)) ?_ ?_
  rotate_left
  · intro f hf ihf
    generalize zit _ f _ = Zf at ihf ⊢
    show zG (zcx l E b_Se_turn "PointsToRounds$Sets" 6 ((some .boolean)) false rm_Se_turn (cp E A K X S R) sz (zPi (bI (cTurn X S).1) (cp E A K X (cTurn X S).2 R))) 0 0 151 [some (.ref (A (9, 0))), some (.int (bI (Zf.1))), some (.int (nI (f))), none, none, none] [] (cp E A K X Zf.2 R)
    try dsimp only at ihf
    refine z_iload_n d_Se_turn_151 rfl ?_
    refine z_aload_n d_Se_turn_152 rfl ?_
    refine z_get fa_Se_22 d_Se_turn_153 (cp_9 hA) rfl ?_
    refine z_cFi (c_size11_1 l E hA _ _ _) cb_AL_size cf_size k_473 (cp_11 hA (j := 1) (by omega)) rfl rfl (zlq rfl) rfl (zlq rfl) (zlq rfl) d_Se_turn_156 ?_
    refine z_icmp_ge (tgt := 189) d_Se_turn_161 (by decide) (fun c161 => absurd c161 (nI_ge hf (by omega))) (fun c161 => ?_)
    have c161n := (not_congr (nI_leI (by omega) (by omega))).mp c161
    refine z_iload_n d_Se_turn_164 rfl ?_
    refine z_aload_n d_Se_turn_165 rfl ?_
    refine z_get fa_Se_22 d_Se_turn_166 (cp_9 hA) rfl ?_
    refine z_iload_n d_Se_turn_169 rfl ?_
    refine z_cFr (c_get11_1 l E hA _ _ _ (f) (by omega)) cb_AL_get cf_get k_475 (cp_11 hA (j := 1) (by omega)) rfl rfl (zlq rfl) rfl (zlq rfl) (zlq rfl) d_Se_turn_170 ?_
    refine z_rf ?_
    refine z_cast (r := (R_Ce, F_Ce, 3)) rfl k_230 k_1143 (cp_23 hA (j := f) (by omega)) d_Se_turn_175 ?_
    refine z_cVi (c_turn23 l E hA _ _ _ (f) (by omega)) cb_Ce_turn ci_Ce_turn ln_Se_80 (cp_23 hA (j := f) (by omega)) rfl rfl (zlq rfl) rfl (zlq rfl) (zlq rfl) d_Se_turn_178 ?_
    refine z_ior d_Se_turn_181 ?_
    refine z_top (bI_or _ _) ?_
    refine z_istore_n d_Se_turn_182 (zlt rfl) ?_
    refine z_iinc (v := nI (f + 1)) d_Se_turn_183 (zlt rfl) rfl (zinc _) ?_
    refine z_goto (tgt := 151) d_Se_turn_186 (by decide) ?_
    exact ihf
  rw [show (zit (fun (k : Nat) (z : Bool × zSt) => (z.1 || decide (z.2 (22 + 40) k ≠ 0), cTu z.2 22 k)) (160) (cTM X S)) = (cTz 22 160 (cTM X S)) from rfl]
  show zG (zcx l E b_Se_turn "PointsToRounds$Sets" 6 ((some .boolean)) false rm_Se_turn (cp E A K X S R) sz (zPi (bI (cTurn X S).1) (cp E A K X (cTurn X S).2 R))) 0 0 151 [some (.ref (A (9, 0))), some (.int (bI ((cTz 22 160 (cTM X S)).1))), some (.int (nI 160)), none, none, none] [] (cp E A K X (cTz 22 160 (cTM X S)).2 R)
  refine z_iload_n d_Se_turn_151 rfl ?_
  refine z_aload_n d_Se_turn_152 rfl ?_
  refine z_get fa_Se_22 d_Se_turn_153 (cp_9 hA) rfl ?_
  refine z_cFi (c_size11_1 l E hA _ _ _) cb_AL_size cf_size k_473 (cp_11 hA (j := 1) (by omega)) rfl rfl (zlq rfl) rfl (zlq rfl) (zlq rfl) d_Se_turn_156 ?_
  refine z_icmp_ge (tgt := 189) d_Se_turn_161 (by decide) (fun c161 => ?_) (fun c161 => absurd (by decide +kernel) c161)
  refine z_iconst d_Se_turn_189 ic_0 ?_
  refine z_istore_n d_Se_turn_190 (zlt rfl) ?_
  refine zlp (Gh := fun (kz : Nat) (Z : (Bool × zSt)) => zG (zcx l E b_Se_turn "PointsToRounds$Sets" 6 ((some .boolean)) false rm_Se_turn (cp E A K X S R) sz (zPi (bI (cTurn X S).1) (cp E A K X (cTurn X S).2 R))) 0 0 191 [some (.ref (A (9, 0))), some (.int (bI (Z.1))), some (.int (nI (kz))), none, none, none] [] (cp E A K X Z.2 R)) (f := fun (k : Nat) (z : Bool × zSt) => (z.1 || decide (z.2 (24 + 40) k ≠ 0), cTu z.2 24 k)) (N := 20) (x0 := (cTz 22 160 (cTM X S))) ?_ ?_
  rotate_left
  · intro e he ihe
    generalize zit _ e _ = Ze at ihe ⊢
    show zG (zcx l E b_Se_turn "PointsToRounds$Sets" 6 ((some .boolean)) false rm_Se_turn (cp E A K X S R) sz (zPi (bI (cTurn X S).1) (cp E A K X (cTurn X S).2 R))) 0 0 191 [some (.ref (A (9, 0))), some (.int (bI (Ze.1))), some (.int (nI (e))), none, none, none] [] (cp E A K X Ze.2 R)
    try dsimp only at ihe
    refine z_iload_n d_Se_turn_191 rfl ?_
    refine z_bipush d_Se_turn_192 bp_20 ?_
    refine z_icmp_ge (tgt := 222) d_Se_turn_194 (by decide) (fun c194 => absurd c194 (nI_ge he (by omega))) (fun c194 => ?_)
    have c194n := (not_congr (nI_leI (by omega) (by omega))).mp c194
    refine z_iload_n d_Se_turn_197 rfl ?_
    refine z_aload_n d_Se_turn_198 rfl ?_
    refine z_get fa_Se_25 d_Se_turn_199 (cp_9 hA) rfl ?_
    refine z_iload_n d_Se_turn_202 rfl ?_
    refine z_cFr (c_get11_2 l E hA _ _ _ (e) (by omega)) cb_AL_get cf_get k_475 (cp_11 hA (j := 2) (by omega)) rfl rfl (zlq rfl) rfl (zlq rfl) (zlq rfl) d_Se_turn_203 ?_
    refine z_rf ?_
    refine z_cast (r := (R_Ce, F_Ce, 3)) rfl k_230 k_1143 (cp_24 hA (j := e) (by omega)) d_Se_turn_208 ?_
    refine z_cVi (c_turn24 l E hA _ _ _ (e) (by omega)) cb_Ce_turn ci_Ce_turn ln_Se_80 (cp_24 hA (j := e) (by omega)) rfl rfl (zlq rfl) rfl (zlq rfl) (zlq rfl) d_Se_turn_211 ?_
    refine z_ior d_Se_turn_214 ?_
    refine z_top (bI_or _ _) ?_
    refine z_istore_n d_Se_turn_215 (zlt rfl) ?_
    refine z_iinc (v := nI (e + 1)) d_Se_turn_216 (zlt rfl) rfl (zinc _) ?_
    refine z_goto (tgt := 191) d_Se_turn_219 (by decide) ?_
    exact ihe
  rw [show (zit (fun (k : Nat) (z : Bool × zSt) => (z.1 || decide (z.2 (24 + 40) k ≠ 0), cTu z.2 24 k)) (20) (cTz 22 160 (cTM X S))) = (cTz 24 20 (cTz 22 160 (cTM X S))) from rfl]
  show zG (zcx l E b_Se_turn "PointsToRounds$Sets" 6 ((some .boolean)) false rm_Se_turn (cp E A K X S R) sz (zPi (bI (cTurn X S).1) (cp E A K X (cTurn X S).2 R))) 0 0 191 [some (.ref (A (9, 0))), some (.int (bI ((cTz 24 20 (cTz 22 160 (cTM X S))).1))), some (.int (nI 20)), none, none, none] [] (cp E A K X (cTz 24 20 (cTz 22 160 (cTM X S))).2 R)
  refine z_iload_n d_Se_turn_191 rfl ?_
  refine z_bipush d_Se_turn_192 bp_20 ?_
  refine z_icmp_ge (tgt := 222) d_Se_turn_194 (by decide) (fun c194 => ?_) (fun c194 => absurd (by decide +kernel) c194)
  refine z_iconst d_Se_turn_222 ic_0 ?_
  refine z_istore_n d_Se_turn_223 (zlt rfl) ?_
  refine zlp (Gh := fun (kz : Nat) (Z : (Bool × zSt)) => zG (zcx l E b_Se_turn "PointsToRounds$Sets" 6 ((some .boolean)) false rm_Se_turn (cp E A K X S R) sz (zPi (bI (cTurn X S).1) (cp E A K X (cTurn X S).2 R))) 0 0 224 [some (.ref (A (9, 0))), some (.int (bI (Z.1))), some (.int (nI (kz))), none, none, none] [] (cp E A K X Z.2 R)) (f := fun (k : Nat) (z : Bool × zSt) => (z.1 || decide (z.2 (26 + 40) k ≠ 0), cTu z.2 26 k)) (N := 4) (x0 := (cTz 24 20 (cTz 22 160 (cTM X S)))) ?_ ?_
  rotate_left
  · intro t ht iht
    generalize zit _ t _ = Zt at iht ⊢
    show zG (zcx l E b_Se_turn "PointsToRounds$Sets" 6 ((some .boolean)) false rm_Se_turn (cp E A K X S R) sz (zPi (bI (cTurn X S).1) (cp E A K X (cTurn X S).2 R))) 0 0 224 [some (.ref (A (9, 0))), some (.int (bI (Zt.1))), some (.int (nI (t))), none, none, none] [] (cp E A K X Zt.2 R)
    try dsimp only at iht
    refine z_iload_n d_Se_turn_224 rfl ?_
    refine z_iconst d_Se_turn_225 ic_4 ?_
    refine z_icmp_ge (tgt := 254) d_Se_turn_226 (by decide) (fun c226 => absurd c226 (nI_ge ht (by omega))) (fun c226 => ?_)
    have c226n := (not_congr (nI_leI (by omega) (by omega))).mp c226
    refine z_iload_n d_Se_turn_229 rfl ?_
    refine z_aload_n d_Se_turn_230 rfl ?_
    refine z_get fa_Se_28 d_Se_turn_231 (cp_9 hA) rfl ?_
    refine z_iload_n d_Se_turn_234 rfl ?_
    refine z_cFr (c_get11_3 l E hA _ _ _ (t) (by omega)) cb_AL_get cf_get k_475 (cp_11 hA (j := 3) (by omega)) rfl rfl (zlq rfl) rfl (zlq rfl) (zlq rfl) d_Se_turn_235 ?_
    refine z_rf ?_
    refine z_cast (r := (R_Ce, F_Ce, 3)) rfl k_230 k_1143 (cp_25 hA (j := t) (by omega)) d_Se_turn_240 ?_
    refine z_cVi (c_turn25 l E hA _ _ _ (t) (by omega)) cb_Ce_turn ci_Ce_turn ln_Se_80 (cp_25 hA (j := t) (by omega)) rfl rfl (zlq rfl) rfl (zlq rfl) (zlq rfl) d_Se_turn_243 ?_
    refine z_ior d_Se_turn_246 ?_
    refine z_top (bI_or _ _) ?_
    refine z_istore_n d_Se_turn_247 (zlt rfl) ?_
    refine z_iinc (v := nI (t + 1)) d_Se_turn_248 (zlt rfl) rfl (zinc _) ?_
    refine z_goto (tgt := 224) d_Se_turn_251 (by decide) ?_
    exact iht
  rw [show (zit (fun (k : Nat) (z : Bool × zSt) => (z.1 || decide (z.2 (26 + 40) k ≠ 0), cTu z.2 26 k)) (4) (cTz 24 20 (cTz 22 160 (cTM X S)))) = (cTz 26 4 (cTz 24 20 (cTz 22 160 (cTM X S)))) from rfl]
  show zG (zcx l E b_Se_turn "PointsToRounds$Sets" 6 ((some .boolean)) false rm_Se_turn (cp E A K X S R) sz (zPi (bI (cTurn X S).1) (cp E A K X (cTurn X S).2 R))) 0 0 224 [some (.ref (A (9, 0))), some (.int (bI ((cTz 26 4 (cTz 24 20 (cTz 22 160 (cTM X S)))).1))), some (.int (nI 4)), none, none, none] [] (cp E A K X (cTz 26 4 (cTz 24 20 (cTz 22 160 (cTM X S)))).2 R)
  refine z_iload_n d_Se_turn_224 rfl ?_
  refine z_iconst d_Se_turn_225 ic_4 ?_
  refine z_icmp_ge (tgt := 254) d_Se_turn_226 (by decide) (fun c226 => ?_) (fun c226 => absurd (by decide +kernel) c226)
  refine z_iload_n d_Se_turn_254 rfl ?_
  exact z_zret rfl (bI_z _) d_Se_turn_255 (zlq rfl) (zlq rfl) (⟨rfl, rfl⟩)
