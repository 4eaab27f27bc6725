/-! small classes: Cell, Body.name, Statement, Thing, Frame; ArrayDeque -/
theorem z_rf {C : zC} {k n pc : Nat} {L : zL} {st : List Value} {h : zPH} {x : Nat} (kk : zG C k n pc L (.ref x :: st) h) : zG C k n pc L (va_rf (some x) :: st) h := kk
abbrev rm_Ce_init : Room := { frames := 1, cells := 0, slots := 0, locals := 12 }
set_option maxHeartbeats 4000000 in
set_option maxRecDepth 100000 in
theorem c_Ce_init (l : Launch) (E : zE) (h : zPH) (a : Nat) : zM l E y_Ce_init b_Ce_init 1 (none) rm_Ce_init [.ref a] (h) (zPv h) := by
  refine zM_w (by decide +kernel) rfl rfl (fun sz => ?_)
  refine z_aload_n d_Ce_init_0 rfl ?_
  refine z_objInit k_135 k_85 k_86 d_Ce_init_1 (zlq rfl) (zlq rfl) ?_
  exact z_vret rfl d_Ce_init_4 (zlq rfl) (zlq rfl) (⟨rfl, rfl⟩)
abbrev rm_Ce_add : Room := { frames := 0, cells := 0, slots := 0, locals := 0 }
set_option maxHeartbeats 4000000 in
set_option maxRecDepth 100000 in
theorem c_Ce_add (l : Launch) (E : zE) (h : zPH) (c : Nat) (a f g : Int32) (hc : h c = some (zob 3 [.int a, .int f, .int g])) (s : Int32) : zM l E y_Ce_add b_Ce_add 2 (none) rm_Ce_add [.ref c, .int s] (h) (zPv (zpu h c (zob 3 [.int a, .int f, .int (g ||| (s &&& (a ^^^ -1)))]))) := by
  refine zM_w (by decide +kernel) rfl rfl (fun sz => ?_)
  refine z_aload_n d_Ce_add_0 rfl ?_
  refine z_dup d_Ce_add_1 rfl ?_
  refine z_get fa_Ce_7 d_Ce_add_2 (hc) rfl ?_
  refine z_iload_n d_Ce_add_5 rfl ?_
  refine z_aload_n d_Ce_add_6 rfl ?_
  refine z_get fa_Ce_13 d_Ce_add_7 (hc) rfl ?_
  refine z_iconst (v := -1) d_Ce_add_10 ic_m1 ?_
  refine z_ixor d_Ce_add_11 ?_
  refine z_iand d_Ce_add_12 ?_
  refine z_ior d_Ce_add_13 ?_
  refine z_put fp_Ce_7 d_Ce_add_14 (hc) (vp_nar_int _) rfl (zlt rfl) ?_
  exact z_vret rfl d_Ce_add_17 (zlq rfl) (zlq rfl) (⟨rfl, rfl⟩)
abbrev rm_Ce_turn : Room := { frames := 0, cells := 0, slots := 0, locals := 0 }
set_option maxHeartbeats 4000000 in
set_option maxRecDepth 100000 in
theorem c_Ce_turn (l : Launch) (E : zE) (h : zPH) (c : Nat) (a f g : Int32) (hc : h c = some (zob 3 [.int a, .int f, .int g])) : zM l E y_Ce_turn b_Ce_turn 1 ((some .boolean)) rm_Ce_turn [.ref c] (h) (zPi (bI (decide (g ≠ 0))) (zpu h c (zob 3 [.int (a ||| g), .int g, .int (nI 0)]))) := by
  refine zM_w (by decide +kernel) rfl rfl (fun sz => ?_)
  refine z_aload_n d_Ce_turn_0 rfl ?_
  refine z_aload_n d_Ce_turn_1 rfl ?_
  refine z_get fa_Ce_7 d_Ce_turn_2 (hc) rfl ?_
  refine z_put fp_Ce_16 d_Ce_turn_5 (hc) (vp_nar_int _) rfl (zlt rfl) ?_
  refine z_aload_n d_Ce_turn_8 rfl ?_
  refine z_dup d_Ce_turn_9 rfl ?_
  refine z_get fa_Ce_13 d_Ce_turn_10 (zpu_s) rfl ?_
  refine z_aload_n d_Ce_turn_13 rfl ?_
  refine z_get fa_Ce_7 d_Ce_turn_14 (zpu_s) rfl ?_
  refine z_ior d_Ce_turn_17 ?_
  refine z_put fp_Ce_13 d_Ce_turn_18 (zpu_s) (vp_nar_int _) rfl (zlt rfl) ?_
  refine z_eqh zpu_pu ?_
  refine z_aload_n d_Ce_turn_21 rfl ?_
  refine z_iconst d_Ce_turn_22 ic_0 ?_
  refine z_put fp_Ce_7 d_Ce_turn_23 (zpu_s) (vp_nar_int _) rfl (zlt rfl) ?_
  refine z_eqh zpu_pu ?_
  refine z_aload_n d_Ce_turn_26 rfl ?_
  refine z_get fa_Ce_16 d_Ce_turn_27 (zpu_s) rfl ?_
  refine z_if_eq (tgt := 37) d_Ce_turn_30 (by decide) (fun c30 => ?_) (fun c30 => ?_)
  · refine z_iconst d_Ce_turn_37 ic_0 ?_
    exact z_zret rfl nz_0 d_Ce_turn_38 (zlq rfl) (zlq rfl) (⟨by simp [bI, c30, nI_one, nI_0], rfl⟩)
  · refine z_iconst d_Ce_turn_33 ic_1 ?_
    refine z_goto (tgt := 38) d_Ce_turn_34 (by decide) ?_
    exact z_zret rfl nz_1 d_Ce_turn_38 (zlq rfl) (zlq rfl) (⟨by simp [bI, c30, nI_one, nI_0], rfl⟩)
abbrev rm_Ce_clear : Room := { frames := 0, cells := 0, slots := 0, locals := 0 }
set_option maxHeartbeats 4000000 in
set_option maxRecDepth 100000 in
theorem c_Ce_clear (l : Launch) (E : zE) (h : zPH) (c : Nat) (a f g : Int32) (hc : h c = some (zob 3 [.int a, .int f, .int g])) : zM l E y_Ce_clear b_Ce_clear 1 (none) rm_Ce_clear [.ref c] (h) (zPv (zpu h c (zob 3 [.int (nI 0), .int (nI 0), .int (nI 0)]))) := by
  refine zM_w (by decide +kernel) rfl rfl (fun sz => ?_)
  refine z_aload_n d_Ce_clear_0 rfl ?_
  refine z_iconst d_Ce_clear_1 ic_0 ?_
  refine z_put fp_Ce_13 d_Ce_clear_2 (hc) (vp_nar_int _) rfl (zlt rfl) ?_
  refine z_aload_n d_Ce_clear_5 rfl ?_
  refine z_iconst d_Ce_clear_6 ic_0 ?_
  refine z_put fp_Ce_16 d_Ce_clear_7 (zpu_s) (vp_nar_int _) rfl (zlt rfl) ?_
  refine z_eqh zpu_pu ?_
  refine z_aload_n d_Ce_clear_10 rfl ?_
  refine z_iconst d_Ce_clear_11 ic_0 ?_
  refine z_put fp_Ce_7 d_Ce_clear_12 (zpu_s) (vp_nar_int _) rfl (zlt rfl) ?_
  refine z_eqh zpu_pu ?_
  exact z_vret rfl d_Ce_clear_15 (zlq rfl) (zlq rfl) (⟨rfl, rfl⟩)
abbrev rm_Bo_name : Room := { frames := 3, cells := 0, slots := 0, locals := 64 }
set_option maxHeartbeats 4000000 in
set_option maxRecDepth 100000 in
theorem c_Bo_name (l : Launch) (E : zE) (h : zPH) (b L ea n cap q i : Nat) (x0 x1 x2 : Value) (md : Int32) (f : Nat → Option Nat) (y0 y1 y2 : Value) (hb : h b = some (zob 2 [x0, x1, x2, .ref L])) (hL : h L = some (zob 9 [.int md, .ref ea, .int (nI n)])) (he : h ea = some (zeO E cap f)) (hc : n ≤ cap) (hcb : cap < 2 ^ 30) (hi : i < n) (hf : f i = some q) (hq : h q = some (zob 3 [y0, y1, y2])) : zM l E y_Bo_name b_Bo_name 2 ((some (.object "PointsToRounds$Cell"))) rm_Bo_name [.ref b, .int (nI i)] (h) (zPr (some q) h) := by
  refine zM_w (by decide +kernel) rfl rfl (fun sz => ?_)
  refine z_aload_n d_Bo_name_0 rfl ?_
  refine z_get fa_Bo_12 d_Bo_name_1 (hb) rfl ?_
  refine z_iload_n d_Bo_name_4 rfl ?_
  refine z_cFr (c_AL_get l E _ _ _ _ _ f _ hL he hc hcb i hi) cb_AL_get cf_get k_481 (hL) rfl rfl (zlq rfl) rfl (zlq rfl) (zlq rfl) d_Bo_name_5 ?_
  rw [hf]
  refine z_rf ?_
  refine z_cast (r := (R_Ce, F_Ce, 3)) rfl k_130 k_1143 (hq) d_Bo_name_10 ?_
  exact z_aret (r := some (q)) rfl (Or.inl ⟨_, rfl⟩) d_Bo_name_13 (zlq rfl) (zlq rfl) (⟨rfl, rfl⟩)
abbrev rm_St_init : Room := { frames := 1, cells := 0, slots := 0, locals := 12 }
set_option maxHeartbeats 4000000 in
set_option maxRecDepth 100000 in
theorem c_St_init (l : Launch) (E : zE) (h : zPH) (a : Nat) (m k p q r s t : Int32) (ha : h a = some (zob 4 [.int 0, .int 0, .int 0, .int 0, .int 0, .int 0, .int 0, .int 0])) : zM l E y_St_init b_St_init 8 (none) rm_St_init [.ref a, .int m, .int k, .int p, .int q, .int r, .int s, .int t] (h) (zPv (zpu h a (zob 4 [.int m, .int k, .int p, .int q, .int r, .int s, .int t, .int (-1)]))) := by
  refine zM_w (by decide +kernel) rfl rfl (fun sz => ?_)
  refine z_aload_n d_St_init_0 rfl ?_
  refine z_objInit k_374 k_85 k_86 d_St_init_1 (zlq rfl) (zlq rfl) ?_
  refine z_aload_n d_St_init_4 rfl ?_
  refine z_iconst (v := -1) d_St_init_5 ic_m1 ?_
  refine z_put fp_St_7 d_St_init_6 (ha) (vp_nar_int _) rfl (zlt rfl) ?_
  refine z_aload_n d_St_init_9 rfl ?_
  refine z_iload_n d_St_init_10 rfl ?_
  refine z_putF fp_St_13 rfl d_St_init_11 (zpu_s) (vp_nar_int _) rfl (zlt rfl) ?_
  refine z_eqh zpu_pu ?_
  refine z_aload_n d_St_init_14 rfl ?_
  refine z_iload_n d_St_init_15 rfl ?_
  refine z_putF fp_St_16 rfl d_St_init_16 (zpu_s) (vp_nar_int _) rfl (zlt rfl) ?_
  refine z_eqh zpu_pu ?_
  refine z_aload_n d_St_init_19 rfl ?_
  refine z_iload_n d_St_init_20 rfl ?_
  refine z_putF fp_St_19 rfl d_St_init_21 (zpu_s) (vp_nar_int _) rfl (zlt rfl) ?_
  refine z_eqh zpu_pu ?_
  refine z_aload_n d_St_init_24 rfl ?_
  refine z_iload d_St_init_25 rfl ?_
  refine z_putF fp_St_22 rfl d_St_init_27 (zpu_s) (vp_nar_int _) rfl (zlt rfl) ?_
  refine z_eqh zpu_pu ?_
  refine z_aload_n d_St_init_30 rfl ?_
  refine z_iload d_St_init_31 rfl ?_
  refine z_putF fp_St_25 rfl d_St_init_33 (zpu_s) (vp_nar_int _) rfl (zlt rfl) ?_
  refine z_eqh zpu_pu ?_
  refine z_aload_n d_St_init_36 rfl ?_
  refine z_iload d_St_init_37 rfl ?_
  refine z_putF fp_St_28 rfl d_St_init_39 (zpu_s) (vp_nar_int _) rfl (zlt rfl) ?_
  refine z_eqh zpu_pu ?_
  refine z_aload_n d_St_init_42 rfl ?_
  refine z_iload d_St_init_43 rfl ?_
  refine z_putF fp_St_31 rfl d_St_init_45 (zpu_s) (vp_nar_int _) rfl (zlt rfl) ?_
  refine z_eqh zpu_pu ?_
  exact z_vret rfl d_St_init_48 (zlq rfl) (zlq rfl) (⟨rfl, rfl⟩)
abbrev rm_Th_init : Room := { frames := 1, cells := 1, slots := 8, locals := 12 }
set_option maxHeartbeats 4000000 in
set_option maxRecDepth 100000 in
theorem c_Th_init (l : Launch) (E : zE) (h : zPH) (a : Nat) (s : Int32) (ha : h a = some (zob 5 [.int 0, .null, .null])) : zM l E y_Th_init b_Th_init 2 (none) rm_Th_init [.ref a, .int s] (h) (fun v h' => v = none ∧ ∃ q, h q = none ∧ h' = zpu (zpu h q (zeT E 8 (fun _ => none))) a (zob 5 [.int s, .ref q, .null])) := by
  refine zM_w (by decide +kernel) rfl rfl (fun sz => ?_)
  refine z_aload_n d_Th_init_0 rfl ?_
  refine z_objInit k_722 k_85 k_86 d_Th_init_1 (zlq rfl) (zlq rfl) ?_
  refine z_aload_n d_Th_init_4 rfl ?_
  refine z_bipush d_Th_init_5 bp_8 ?_
  refine z_newT (N := 8) k_723 d_Th_init_7 (nI_pos (by omega)) (nI_clamp (by omega)) (by omega) (zlq rfl) (zlq rfl) (fun q1 hq1 => ?_)
  have n_q1_a : q1 ≠ a := zne hq1 (ha)
  refine z_putF fp_Th_9 rfl d_Th_init_10 ((zpu_n (Ne.symm n_q1_a)).trans (ha)) rfl rfl (zlt rfl) ?_
  refine z_aload_n d_Th_init_13 rfl ?_
  refine z_iload_n d_Th_init_14 rfl ?_
  refine z_putF fp_Th_13 rfl d_Th_init_15 (zpu_s) (vp_nar_int _) rfl (zlt rfl) ?_
  refine z_eqh zpu_pu ?_
  exact z_vret rfl d_Th_init_18 (zlq rfl) (zlq rfl) (⟨rfl, q1, hq1, rfl⟩)
abbrev rm_Fr_init : Room := { frames := 1, cells := 1, slots := 6, locals := 12 }
set_option maxHeartbeats 4000000 in
set_option maxRecDepth 100000 in
theorem c_Fr_initN (l : Launch) (E : zE) (h : zPH) (a : Nat) (m c : Int32) (ha : h a = some (zob 6 [.int 0, .int 0, .null, .null])) : zM l E y_Fr_init b_Fr_init 4 (none) rm_Fr_init [.ref a, .int m, .int c, .null] (h) (fun v h' => v = none ∧ ∃ q, h q = none ∧ h' = zpu (zpu h q (zeT E 6 (fun _ => none))) a (zob 6 [.int m, .int c, .null, .ref q])) := by
  refine zM_w (by decide +kernel) rfl rfl (fun sz => ?_)
  refine z_aload_n d_Fr_init_0 rfl ?_
  refine z_objInit k_653 k_85 k_86 d_Fr_init_1 (zlq rfl) (zlq rfl) ?_
  refine z_aload_n d_Fr_init_4 rfl ?_
  refine z_bipush d_Fr_init_5 bp_6 ?_
  refine z_newT (N := 6) k_654 d_Fr_init_7 (nI_pos (by omega)) (nI_clamp (by omega)) (by omega) (zlq rfl) (zlq rfl) (fun q1 hq1 => ?_)
  have n_q1_a : q1 ≠ a := zne hq1 (ha)
  refine z_putF fp_Fr_9 rfl d_Fr_init_10 ((zpu_n (Ne.symm n_q1_a)).trans (ha)) rfl rfl (zlt rfl) ?_
  refine z_aload_n d_Fr_init_13 rfl ?_
  refine z_iload_n d_Fr_init_14 rfl ?_
  refine z_putF fp_Fr_15 rfl d_Fr_init_15 (zpu_s) (vp_nar_int _) rfl (zlt rfl) ?_
  refine z_eqh zpu_pu ?_
  refine z_aload_n d_Fr_init_18 rfl ?_
  refine z_iload_n d_Fr_init_19 rfl ?_
  refine z_putF fp_Fr_19 rfl d_Fr_init_20 (zpu_s) (vp_nar_int _) rfl (zlt rfl) ?_
  refine z_eqh zpu_pu ?_
  refine z_aload_n d_Fr_init_23 rfl ?_
  refine z_aload_nN d_Fr_init_24 rfl ?_
  refine z_putF fp_Fr_22 rfl d_Fr_init_25 (zpu_s) rfl rfl (zlt rfl) ?_
  refine z_eqh zpu_pu ?_
  exact z_vret rfl d_Fr_init_28 (zlq rfl) (zlq rfl) (⟨rfl, q1, hq1, rfl⟩)
set_option maxHeartbeats 4000000 in
set_option maxRecDepth 100000 in
theorem c_Fr_initR (l : Launch) (E : zE) (h : zPH) (a : Nat) (m c : Int32) (y : Nat) (ha : h a = some (zob 6 [.int 0, .int 0, .null, .null])) : zM l E y_Fr_init b_Fr_init 4 (none) rm_Fr_init [.ref a, .int m, .int c, .ref y] (h) (fun v h' => v = none ∧ ∃ q, h q = none ∧ h' = zpu (zpu h q (zeT E 6 (fun _ => none))) a (zob 6 [.int m, .int c, .ref y, .ref q])) := by
  refine zM_w (by decide +kernel) rfl rfl (fun sz => ?_)
  refine z_aload_n d_Fr_init_0 rfl ?_
  refine z_objInit k_653 k_85 k_86 d_Fr_init_1 (zlq rfl) (zlq rfl) ?_
  refine z_aload_n d_Fr_init_4 rfl ?_
  refine z_bipush d_Fr_init_5 bp_6 ?_
  refine z_newT (N := 6) k_654 d_Fr_init_7 (nI_pos (by omega)) (nI_clamp (by omega)) (by omega) (zlq rfl) (zlq rfl) (fun q1 hq1 => ?_)
  have n_q1_a : q1 ≠ a := zne hq1 (ha)
  refine z_putF fp_Fr_9 rfl d_Fr_init_10 ((zpu_n (Ne.symm n_q1_a)).trans (ha)) rfl rfl (zlt rfl) ?_
  refine z_aload_n d_Fr_init_13 rfl ?_
  refine z_iload_n d_Fr_init_14 rfl ?_
  refine z_putF fp_Fr_15 rfl d_Fr_init_15 (zpu_s) (vp_nar_int _) rfl (zlt rfl) ?_
  refine z_eqh zpu_pu ?_
  refine z_aload_n d_Fr_init_18 rfl ?_
  refine z_iload_n d_Fr_init_19 rfl ?_
  refine z_putF fp_Fr_19 rfl d_Fr_init_20 (zpu_s) (vp_nar_int _) rfl (zlt rfl) ?_
  refine z_eqh zpu_pu ?_
  refine z_aload_n d_Fr_init_23 rfl ?_
  refine z_aload_n d_Fr_init_24 rfl ?_
  refine z_putF fp_Fr_22 rfl d_Fr_init_25 (zpu_s) rfl rfl (zlt rfl) ?_
  refine z_eqh zpu_pu ?_
  exact z_vret rfl d_Fr_init_28 (zlq rfl) (zlq rfl) (⟨rfl, q1, hq1, rfl⟩)
abbrev rm_AD_init : Room := { frames := 2, cells := 1, slots := 17, locals := 32 }
set_option maxHeartbeats 4000000 in
set_option maxRecDepth 100000 in
theorem c_AD_init (l : Launch) (E : zE) (h : zPH) (a : Nat) (ha : h a = some (zob 10 [.null, .int 0, .int 0])) : zM l E y_AD_init b_AD_init 1 (none) rm_AD_init [.ref a] (h) (fun v h' => v = none ∧ ∃ q, h q = none ∧ h' = zpu (zpu h q (zeO E 17 (fun _ => none))) a (zob 10 [.ref q, .int 0, .int 0])) := by
  refine zM_w (by decide +kernel) rfl rfl (fun sz => ?_)
  refine z_aload_n d_AD_init_0 rfl ?_
  refine z_cIv (c_AbC_init l E _ _) cb_AbC_init ii_AbC_init ln_AD_42 rfl rfl (zlq rfl) rfl (zlq rfl) (zlq rfl) d_AD_init_1 ?_
  refine z_aload_n d_AD_init_4 rfl ?_
  refine z_bipush d_AD_init_5 bp_17 ?_
  refine z_newO (N := 17) k_604 d_AD_init_7 (nI_pos (by omega)) (nI_clamp (by omega)) (by omega) (zlq rfl) (zlq rfl) (fun q1 hq1 => ?_)
  have n_q1_a : q1 ≠ a := zne hq1 (ha)
  refine z_put fp_AD_3 d_AD_init_10 ((zpu_n (Ne.symm n_q1_a)).trans (ha)) rfl rfl (zlt rfl) ?_
  exact z_vret rfl d_AD_init_13 (zlq rfl) (zlq rfl) (⟨rfl, q1, hq1, rfl⟩)
abbrev rm_AD_dec : Room := { frames := 0, cells := 0, slots := 0, locals := 0 }
set_option maxHeartbeats 4000000 in
set_option maxRecDepth 100000 in
theorem c_AD_dec (l : Launch) (E : zE) (h : zPH) (i j : Nat) (hj : i = 0 ∧ j = 16 ∨ i = j + 1 ∧ i < 17) : zM l E y_AD_dec b_AD_dec 2 ((some .int)) rm_AD_dec [.int (nI i), .int (nI 17)] (h) (zPi (nI j) h) := by
  refine zM_w (by decide +kernel) rfl rfl (fun sz => ?_)
  rcases hj with ⟨rfl, rfl⟩ | ⟨rfl, hj⟩
  · refine z_iinc (v := -1) d_AD_dec_0 (zlt rfl) rfl (by decide +kernel) ?_
    refine z_iload_n d_AD_dec_3 rfl ?_
    refine z_if_ge (tgt := 11) d_AD_dec_4 (by decide) (fun q => absurd q zneg2) (fun _ => ?_)
    refine z_iload_n d_AD_dec_7 rfl ?_
    refine z_iconst d_AD_dec_8 ic_1 ?_
    refine z_isub d_AD_dec_9 ?_
    refine z_istore_n d_AD_dec_10 (zlt rfl) ?_
    refine z_iload_n d_AD_dec_11 rfl ?_
    refine z_top (y := nI 16) (by decide +kernel) ?_
    exact z_iret rfl d_AD_dec_12 (zlq rfl) (zlq rfl) ⟨rfl, rfl⟩
  · refine z_iinc (v := nI j) d_AD_dec_0 (zlt rfl) rfl (by rw [show Int32.ofInt (-1) = -nI 1 by decide +kernel, ← Int32.sub_eq_add_neg, pk_sub (by omega), Nat.add_sub_cancel]) ?_
    refine z_iload_n d_AD_dec_3 rfl ?_
    refine z_if_ge (tgt := 11) d_AD_dec_4 (by decide) (fun _ => ?_) (fun q => absurd (nI_pos' (by omega)) q)
    refine z_iload_n d_AD_dec_11 rfl ?_
    exact z_iret rfl d_AD_dec_12 (zlq rfl) (zlq rfl) ⟨rfl, rfl⟩
abbrev rm_AD_sub : Room := { frames := 0, cells := 0, slots := 0, locals := 0 }
set_option maxHeartbeats 4000000 in
set_option maxRecDepth 100000 in
theorem c_AD_sub (l : Launch) (E : zE) (h : zPH) (i j : Nat) (hj : i = 0 ∧ j = 0 ∨ 0 < i ∧ i + j = 17) : zM l E y_AD_sub b_AD_sub 3 ((some .int)) rm_AD_sub [.int (nI 0), .int (nI i), .int (nI 17)] (h) (zPi (nI j) h) := by
  refine zM_w (by decide +kernel) rfl rfl (fun sz => ?_)
  refine z_iload_n d_AD_sub_0 rfl ?_
  refine z_iload_n d_AD_sub_1 rfl ?_
  refine z_isub d_AD_sub_2 ?_
  refine z_dup d_AD_sub_3 rfl ?_
  refine z_istore_n d_AD_sub_4 (zlt rfl) ?_
  rcases hj with ⟨rfl, rfl⟩ | ⟨h0, hj⟩
  · refine z_if_ge (tgt := 12) d_AD_sub_5 (by decide) (fun _ => ?_) (fun q => absurd (by decide +kernel) q)
    refine z_iload_n d_AD_sub_12 rfl ?_
    refine z_top (y := nI 0) (by decide +kernel) ?_
    exact z_iret rfl d_AD_sub_13 (zlq rfl) (zlq rfl) ⟨rfl, rfl⟩
  · have e1 : (nI 0 - nI i).toInt = -(i : Int) := by rw [pk_sub_toInt (by omega) (by omega)]; omega
    refine z_if_ge (tgt := 12) d_AD_sub_5 (by decide) (fun q => absurd (Int32.le_iff_toInt_le.mp q) (by rw [e1, show (0 : Int32).toInt = 0 by decide +kernel]; omega)) (fun _ => ?_)
    refine z_iload_n d_AD_sub_8 rfl ?_
    refine z_iload_n d_AD_sub_9 rfl ?_
    refine z_iadd d_AD_sub_10 ?_
    refine z_istore_n d_AD_sub_11 (zlt rfl) ?_
    refine z_iload_n d_AD_sub_12 rfl ?_
    refine z_top (y := nI j) (by rw [show nI 0 = (0 : Int32) from nI_0, Int32.zero_sub, Int32.add_comm, ← Int32.sub_eq_add_neg, pk_sub (by omega), show 17 - i = j by omega]) ?_
    exact z_iret rfl d_AD_sub_13 (zlq rfl) (zlq rfl) ⟨rfl, rfl⟩
abbrev rm_AD_inc : Room := { frames := 0, cells := 0, slots := 0, locals := 0 }
set_option maxHeartbeats 4000000 in
set_option maxRecDepth 100000 in
theorem c_AD_inc (l : Launch) (E : zE) (h : zPH) (i : Nat) (hi : i + 1 < 17) : zM l E y_AD_inc b_AD_inc 2 ((some .int)) rm_AD_inc [.int (nI i), .int (nI 17)] (h) (zPi (nI (i + 1)) h) := by
  refine zM_w (by decide +kernel) rfl rfl (fun sz => ?_)
  refine z_iinc (v := nI (i + 1)) d_AD_inc_0 (zlt rfl) rfl (zinc _) ?_
  refine z_iload_n d_AD_inc_3 rfl ?_
  refine z_iload_n d_AD_inc_4 rfl ?_
  refine z_icmp_lt (tgt := 10) d_AD_inc_5 (by decide) (fun _ => ?_) (fun c => absurd (nI_lt hi (by decide)) c)
  refine z_iload_n d_AD_inc_10 rfl ?_
  exact z_iret rfl d_AD_inc_11 (zlq rfl) (zlq rfl) ⟨rfl, rfl⟩
abbrev rm_AD_elementAt : Room := { frames := 0, cells := 0, slots := 0, locals := 0 }
set_option maxHeartbeats 4000000 in
set_option maxRecDepth 100000 in
theorem c_AD_elementAt (l : Launch) (E : zE) (h : zPH) (es hd x : Nat) (f : Nat → Option Nat) (he : h es = some (zeO E 17 f)) (hh : hd < 17) (hf : f hd = some x) : zM l E y_AD_elementAt b_AD_elementAt 2 ((some (.object "java/lang/Object"))) rm_AD_elementAt [.ref es, .int (nI hd)] (h) (zPr (some x) h) := by
  refine zM_w (by decide +kernel) rfl rfl (fun sz => ?_)
  refine z_aload_n d_AD_elementAt_0 rfl ?_
  refine z_iload_n d_AD_elementAt_1 rfl ?_
  refine z_aaldO (hd) d_AD_elementAt_2 (he) rfl (by omega) (by omega) ?_
  rw [hf]
  exact z_aret (r := some (x)) rfl (Or.inl ⟨_, rfl⟩) d_AD_elementAt_3 (zlq rfl) (zlq rfl) (⟨rfl, rfl⟩)
abbrev rm_AD_peekFirst : Room := { frames := 1, cells := 0, slots := 0, locals := 21 }
set_option maxHeartbeats 4000000 in
set_option maxRecDepth 100000 in
theorem c_AD_peekFirst (l : Launch) (E : zE) (h : zPH) (d es hd : Nat) (f : Nat → Option Nat) (hD : h d = some (zob 10 [.ref es, .int (nI hd), .int (nI 0)])) (he : h es = some (zeO E 17 f)) (x : Nat) (hh : hd < 17) (hf : f hd = some x) : zM l E y_AD_peekFirst b_AD_peekFirst 1 ((some (.object "java/lang/Object"))) rm_AD_peekFirst [.ref d] (h) (zPr (some x) h) := by
  refine zM_w (by decide +kernel) rfl rfl (fun sz => ?_)
  refine z_aload_n d_AD_peekFirst_0 rfl ?_
  refine z_get fa_AD_3 d_AD_peekFirst_1 (hD) rfl ?_
  refine z_aload_n d_AD_peekFirst_4 rfl ?_
  refine z_get fa_AD_24 d_AD_peekFirst_5 (hD) rfl ?_
  refine z_cSr (c_AD_elementAt l E _ _ _ _ _ he hh hf) cb_AD_elementAt cs_AD_elementAt ln_AD_103 rfl rfl (zlq rfl) rfl (zlq rfl) (zlq rfl) d_AD_peekFirst_8 ?_
  refine z_rf ?_
  exact z_aret (r := some (x)) rfl (Or.inl ⟨_, rfl⟩) d_AD_peekFirst_11 (zlq rfl) (zlq rfl) (⟨rfl, rfl⟩)
abbrev rm_AD_peek : Room := { frames := 2, cells := 0, slots := 0, locals := 41 }
set_option maxHeartbeats 4000000 in
set_option maxRecDepth 100000 in
theorem c_AD_peek (l : Launch) (E : zE) (h : zPH) (d es hd : Nat) (f : Nat → Option Nat) (hD : h d = some (zob 10 [.ref es, .int (nI hd), .int (nI 0)])) (he : h es = some (zeO E 17 f)) (x : Nat) (hh : hd < 17) (hf : f hd = some x) : zM l E y_AD_peek b_AD_peek 1 ((some (.object "java/lang/Object"))) rm_AD_peek [.ref d] (h) (zPr (some x) h) := by
  refine zM_w (by decide +kernel) rfl rfl (fun sz => ?_)
  refine z_aload_n d_AD_peek_0 rfl ?_
  refine z_cVr (c_AD_peekFirst l E _ _ _ _ _ hD he _ hh hf) cb_AD_peekFirst ci_AD_peekFirst ln_AD_124 (hD) rfl rfl (zlq rfl) rfl (zlq rfl) (zlq rfl) d_AD_peek_1 ?_
  refine z_rf ?_
  exact z_aret (r := some (x)) rfl (Or.inl ⟨_, rfl⟩) d_AD_peek_4 (zlq rfl) (zlq rfl) (⟨rfl, rfl⟩)
abbrev rm_AD_size : Room := { frames := 1, cells := 0, slots := 0, locals := 22 }
set_option maxHeartbeats 4000000 in
set_option maxRecDepth 100000 in
theorem c_AD_size (l : Launch) (E : zE) (h : zPH) (d es hd : Nat) (f : Nat → Option Nat) (hD : h d = some (zob 10 [.ref es, .int (nI hd), .int (nI 0)])) (he : h es = some (zeO E 17 f)) (n : Nat) (hn : hd = 0 ∧ n = 0 ∨ 0 < hd ∧ hd + n = 17) : zM l E y_AD_size b_AD_size 1 ((some .int)) rm_AD_size [.ref d] (h) (zPi (nI n) h) := by
  refine zM_w (by decide +kernel) rfl rfl (fun sz => ?_)
  refine z_aload_n d_AD_size_0 rfl ?_
  refine z_get fa_AD_20 d_AD_size_1 (hD) rfl ?_
  refine z_aload_n d_AD_size_4 rfl ?_
  refine z_get fa_AD_24 d_AD_size_5 (hD) rfl ?_
  refine z_aload_n d_AD_size_8 rfl ?_
  refine z_get fa_AD_3 d_AD_size_9 (hD) rfl ?_
  refine z_alenO d_AD_size_12 (he) ?_
  refine z_cSi (c_AD_sub l E _ _ _ hn) cb_AD_sub cs_AD_sub ln_AD_127 rfl rfl (zlq rfl) rfl (zlq rfl) (zlq rfl) d_AD_size_13 ?_
  exact z_iret rfl d_AD_size_16 (zlq rfl) (zlq rfl) (⟨rfl, rfl⟩)
abbrev rm_AD_addFirst : Room := { frames := 1, cells := 0, slots := 0, locals := 21 }
set_option maxHeartbeats 4000000 in
set_option maxRecDepth 100000 in
theorem c_AD_addFirst (l : Launch) (E : zE) (h : zPH) (d es hd : Nat) (f : Nat → Option Nat) (hD : h d = some (zob 10 [.ref es, .int (nI hd), .int (nI 0)])) (he : h es = some (zeO E 17 f)) (j x : Nat) (hj : hd = 0 ∧ j = 16 ∨ hd = j + 1 ∧ hd < 17) (h0 : 0 < j) (hx : zel h x) : zM l E y_AD_addFirst b_AD_addFirst 3 (none) rm_AD_addFirst [.ref d, .ref x] (h) (zPv (zpu (zpu h es (zeO E 17 (va_up f j (some x)))) d (zob 10 [.ref es, .int (nI j), .int (nI 0)]))) := by
  refine zM_w (by decide +kernel) rfl rfl (fun sz => ?_)
  have nde : d ≠ es := zne_e hD he zoa_ne
  obtain ⟨ci, fs, r, x1, x2, x3⟩ := zel_pu (gs := [.ref es, .int (nI j), .int (nI 0)]) hD hx
  refine z_aload_n d_AD_addFirst_0 rfl ?_
  refine z_ifnonnullR (tgt := 12) d_AD_addFirst_1 (by decide) ?_
  refine z_aload_n d_AD_addFirst_12 rfl ?_
  refine z_get fa_AD_3 d_AD_addFirst_13 (hD) rfl ?_
  refine z_astore_n d_AD_addFirst_16 (zlt rfl) ?_
  refine z_aload_n d_AD_addFirst_17 rfl ?_
  refine z_aload_n d_AD_addFirst_18 rfl ?_
  refine z_aload_n d_AD_addFirst_19 rfl ?_
  refine z_get fa_AD_24 d_AD_addFirst_20 (hD) rfl ?_
  refine z_aload_n d_AD_addFirst_23 rfl ?_
  refine z_alenO d_AD_addFirst_24 (he) ?_
  refine z_cSi (c_AD_dec l E _ _ _ hj) cb_AD_dec cs_AD_dec ln_AD_68 rfl rfl (zlq rfl) rfl (zlq rfl) (zlq rfl) d_AD_addFirst_25 ?_
  refine z_dup_x1 d_AD_addFirst_28 rfl rfl ?_
  refine z_put fp_AD_24 d_AD_addFirst_29 (hD) (vp_nar_int _) rfl (zlt rfl) ?_
  refine z_aload_n d_AD_addFirst_32 rfl ?_
  refine z_aastO (j) d_AD_addFirst_33 ((zpu_n (Ne.symm nde)).trans (he)) x1 x2 x3 rfl (by omega) (by omega) ?_
  refine z_aload_n d_AD_addFirst_34 rfl ?_
  refine z_get fa_AD_24 d_AD_addFirst_35 ((zpu_n nde).trans (zpu_s)) rfl ?_
  refine z_aload_n d_AD_addFirst_38 rfl ?_
  refine z_get fa_AD_20 d_AD_addFirst_39 ((zpu_n nde).trans (zpu_s)) rfl ?_
  refine z_icmp_ne (tgt := 50) d_AD_addFirst_42 (by decide) (fun c42 => ?_) (fun c42 => absurd c42 (fun z => absurd ((nI_eq (by omega) (by decide)).mp z) (by omega)))
  have c42n := (not_congr (nI_eq (by omega) (by omega))).mp c42
  exact z_vret rfl d_AD_addFirst_50 (zlq rfl) (zlq rfl) (⟨rfl, by rw [zpu_comm nde]; rfl⟩)
abbrev rm_AD_push : Room := { frames := 2, cells := 0, slots := 0, locals := 43 }
set_option maxHeartbeats 4000000 in
set_option maxRecDepth 100000 in
theorem c_AD_push (l : Launch) (E : zE) (h : zPH) (d es hd : Nat) (f : Nat → Option Nat) (hD : h d = some (zob 10 [.ref es, .int (nI hd), .int (nI 0)])) (he : h es = some (zeO E 17 f)) (j x : Nat) (hj : hd = 0 ∧ j = 16 ∨ hd = j + 1 ∧ hd < 17) (h0 : 0 < j) (hx : zel h x) : zM l E y_AD_push b_AD_push 2 (none) rm_AD_push [.ref d, .ref x] (h) (zPv (zpu (zpu h es (zeO E 17 (va_up f j (some x)))) d (zob 10 [.ref es, .int (nI j), .int (nI 0)]))) := by
  refine zM_w (by decide +kernel) rfl rfl (fun sz => ?_)
  refine z_aload_n d_AD_push_0 rfl ?_
  refine z_aload_n d_AD_push_1 rfl ?_
  refine z_cVv (c_AD_addFirst l E _ _ _ _ _ hD he _ _ hj h0 hx) cb_AD_addFirst ci_AD_addFirst ln_AD_86 (hD) rfl rfl (zlq rfl) rfl (zlq rfl) (zlq rfl) d_AD_push_2 ?_
  exact z_vret rfl d_AD_push_5 (zlq rfl) (zlq rfl) (⟨rfl, rfl⟩)
abbrev rm_AD_pollFirst : Room := { frames := 1, cells := 0, slots := 0, locals := 21 }
set_option maxHeartbeats 4000000 in
set_option maxRecDepth 100000 in
theorem c_AD_pollFirst (l : Launch) (E : zE) (h : zPH) (d es hd : Nat) (f : Nat → Option Nat) (hD : h d = some (zob 10 [.ref es, .int (nI hd), .int (nI 0)])) (he : h es = some (zeO E 17 f)) (x : Nat) (hh : hd < 17) (hf : f hd = some x) (hi : hd + 1 < 17) : zM l E y_AD_pollFirst b_AD_pollFirst 4 ((some (.object "java/lang/Object"))) rm_AD_pollFirst [.ref d] (h) (zPr (some x) (zpu (zpu h es (zeO E 17 (va_up f hd none))) d (zob 10 [.ref es, .int (nI (hd + 1)), .int (nI 0)]))) := by
  refine zM_w (by decide +kernel) rfl rfl (fun sz => ?_)
  have nde : d ≠ es := zne_e hD he zoa_ne
  refine z_aload_n d_AD_pollFirst_0 rfl ?_
  refine z_get fa_AD_3 d_AD_pollFirst_1 (hD) rfl ?_
  refine z_dup d_AD_pollFirst_4 rfl ?_
  refine z_astore_n d_AD_pollFirst_5 (zlt rfl) ?_
  refine z_aload_n d_AD_pollFirst_6 rfl ?_
  refine z_get fa_AD_24 d_AD_pollFirst_7 (hD) rfl ?_
  refine z_dup d_AD_pollFirst_10 rfl ?_
  refine z_istore_n d_AD_pollFirst_11 (zlt rfl) ?_
  refine z_cSr (c_AD_elementAt l E _ _ _ _ _ he hh hf) cb_AD_elementAt cs_AD_elementAt ln_AD_103 rfl rfl (zlq rfl) rfl (zlq rfl) (zlq rfl) d_AD_pollFirst_12 ?_
  refine z_rf ?_
  refine z_astore_n d_AD_pollFirst_15 (zlt rfl) ?_
  refine z_aload_n d_AD_pollFirst_16 rfl ?_
  refine z_ifnullR d_AD_pollFirst_17 ?_
  refine z_aload_n d_AD_pollFirst_20 rfl ?_
  refine z_iload_n d_AD_pollFirst_21 rfl ?_
  refine z_null d_AD_pollFirst_22 ?_
  refine z_aastON (hd) d_AD_pollFirst_23 (he) rfl (hh) (by omega) ?_
  refine z_aload_n d_AD_pollFirst_24 rfl ?_
  refine z_iload_n d_AD_pollFirst_25 rfl ?_
  refine z_aload_n d_AD_pollFirst_26 rfl ?_
  refine z_alenO d_AD_pollFirst_27 (zpu_s) ?_
  refine z_cSi (c_AD_inc l E _ _ hi) cb_AD_inc cs_AD_inc ln_AD_74 rfl rfl (zlq rfl) rfl (zlq rfl) (zlq rfl) d_AD_pollFirst_28 ?_
  refine z_put fp_AD_24 d_AD_pollFirst_31 ((zpu_n nde).trans (hD)) (vp_nar_int _) rfl (zlt rfl) ?_
  refine z_aload_n d_AD_pollFirst_34 rfl ?_
  exact z_aret (r := some (x)) rfl (Or.inl ⟨_, rfl⟩) d_AD_pollFirst_35 (zlq rfl) (zlq rfl) (⟨rfl, rfl⟩)
abbrev rm_AD_removeFirst : Room := { frames := 2, cells := 0, slots := 0, locals := 44 }
set_option maxHeartbeats 4000000 in
set_option maxRecDepth 100000 in
theorem c_AD_removeFirst (l : Launch) (E : zE) (h : zPH) (d es hd : Nat) (f : Nat → Option Nat) (hD : h d = some (zob 10 [.ref es, .int (nI hd), .int (nI 0)])) (he : h es = some (zeO E 17 f)) (x : Nat) (hh : hd < 17) (hf : f hd = some x) (hi : hd + 1 < 17) : zM l E y_AD_removeFirst b_AD_removeFirst 2 ((some (.object "java/lang/Object"))) rm_AD_removeFirst [.ref d] (h) (zPr (some x) (zpu (zpu h es (zeO E 17 (va_up f hd none))) d (zob 10 [.ref es, .int (nI (hd + 1)), .int (nI 0)]))) := by
  refine zM_w (by decide +kernel) rfl rfl (fun sz => ?_)
  refine z_aload_n d_AD_removeFirst_0 rfl ?_
  refine z_cVr (c_AD_pollFirst l E _ _ _ _ _ hD he _ hh hf hi) cb_AD_pollFirst ci_AD_pollFirst ln_AD_93 (hD) rfl rfl (zlq rfl) rfl (zlq rfl) (zlq rfl) d_AD_removeFirst_1 ?_
  refine z_rf ?_
  refine z_astore_n d_AD_removeFirst_4 (zlt rfl) ?_
  refine z_aload_n d_AD_removeFirst_5 rfl ?_
  refine z_ifnonnullR (tgt := 17) d_AD_removeFirst_6 (by decide) ?_
  refine z_aload_n d_AD_removeFirst_17 rfl ?_
  exact z_aret (r := some (x)) rfl (Or.inl ⟨_, rfl⟩) d_AD_removeFirst_18 (zlq rfl) (zlq rfl) (⟨rfl, rfl⟩)
abbrev rm_AD_pop : Room := { frames := 3, cells := 0, slots := 0, locals := 65 }
set_option maxHeartbeats 4000000 in
set_option maxRecDepth 100000 in
theorem c_AD_pop (l : Launch) (E : zE) (h : zPH) (d es hd : Nat) (f : Nat → Option Nat) (hD : h d = some (zob 10 [.ref es, .int (nI hd), .int (nI 0)])) (he : h es = some (zeO E 17 f)) (x : Nat) (hh : hd < 17) (hf : f hd = some x) (hi : hd + 1 < 17) : zM l E y_AD_pop b_AD_pop 1 ((some (.object "java/lang/Object"))) rm_AD_pop [.ref d] (h) (zPr (some x) (zpu (zpu h es (zeO E 17 (va_up f hd none))) d (zob 10 [.ref es, .int (nI (hd + 1)), .int (nI 0)]))) := by
  refine zM_w (by decide +kernel) rfl rfl (fun sz => ?_)
  refine z_aload_n d_AD_pop_0 rfl ?_
  refine z_cVr (c_AD_removeFirst l E _ _ _ _ _ hD he _ hh hf hi) cb_AD_removeFirst ci_AD_removeFirst ln_AD_118 (hD) rfl rfl (zlq rfl) rfl (zlq rfl) (zlq rfl) d_AD_pop_1 ?_
  refine z_rf ?_
  exact z_aret (r := some (x)) rfl (Or.inl ⟨_, rfl⟩) d_AD_pop_4 (zlq rfl) (zlq rfl) (⟨rfl, rfl⟩)
