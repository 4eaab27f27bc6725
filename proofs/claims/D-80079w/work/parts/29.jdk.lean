/-! the JDK: ArrayList -/
theorem z_fb {v : Int32} (hz : v = 0 ∨ v = 1) : fits .boolean (.int v) = true := by rcases hz with rfl | rfl <;> rfl
abbrev rm_AbC_init : Room := { frames := 1, cells := 0, slots := 0, locals := 12 }
set_option maxHeartbeats 4000000 in
set_option maxRecDepth 100000 in
theorem c_AbC_init (l : Launch) (E : zE) (h : zPH) (a : Nat) : zM l E y_AbC_init b_AbC_init 1 (none) rm_AbC_init [.ref a] (h) (zPv h) := by
  refine zM_w (by decide +kernel) rfl rfl (fun sz => ?_)
  refine z_aload_n d_AbC_init_0 rfl ?_
  refine z_objInit k_98 k_85 k_86 d_AbC_init_1 (zlq rfl) (zlq rfl) ?_
  exact z_vret rfl d_AbC_init_4 (zlq rfl) (zlq rfl) (⟨rfl, rfl⟩)
abbrev rm_AbL_init : Room := { frames := 2, cells := 0, slots := 0, locals := 32 }
set_option maxHeartbeats 4000000 in
set_option maxRecDepth 100000 in
theorem c_AbL_init (l : Launch) (E : zE) (h : zPH) (a : Nat) (x0 x1 x2 : Value) (ha : h a = some (zob 9 [x0, x1, x2])) : zM l E y_AbL_init b_AbL_init 1 (none) rm_AbL_init [.ref a] (h) (zPv (zpu h a (zob 9 [.int (nI 0), x1, x2]))) := by
  refine zM_w (by decide +kernel) rfl rfl (fun sz => ?_)
  refine z_aload_n d_AbL_init_0 rfl ?_
  refine z_cIv (c_AbC_init l E _ _) cb_AbC_init ii_AbC_init ln_AbL_1 rfl rfl (zlq rfl) rfl (zlq rfl) (zlq rfl) d_AbL_init_1 ?_
  refine z_aload_n d_AbL_init_4 rfl ?_
  refine z_iconst d_AbL_init_5 ic_0 ?_
  refine z_put fp_AbL_7 d_AbL_init_6 (ha) (vp_nar_int _) rfl (zlt rfl) ?_
  exact z_vret rfl d_AbL_init_9 (zlq rfl) (zlq rfl) (⟨rfl, rfl⟩)
abbrev rm_AL_init : Room := { frames := 3, cells := 0, slots := 0, locals := 52 }
set_option maxHeartbeats 4000000 in
set_option maxRecDepth 100000 in
theorem c_AL_init (l : Launch) (E : zE) (h : zPH) (a : Nat) (ha : h a = some (zob 9 [.int 0, .null, .int 0])) : zM l E y_AL_init b_AL_init 1 (none) rm_AL_init [.ref a] (h) (zPv (zpu h a (zob 9 [.int (nI 0), .ref (zt0 E), .int 0]))) := by
  refine zM_w (by decide +kernel) rfl rfl (fun sz => ?_)
  refine z_aload_n d_AL_init_0 rfl ?_
  refine z_cIv (c_AbL_init l E _ _ _ _ _ (ha)) cb_AbL_init ii_AbL_init ln_AL_1 rfl rfl (zlq rfl) rfl (zlq rfl) (zlq rfl) d_AL_init_1 ?_
  refine z_aload_n d_AL_init_4 rfl ?_
  refine z_gets0 k_99 d_AL_init_5 ?_
  refine z_put fp_AL_9 d_AL_init_8 (zpu_s) rfl rfl (zlt rfl) ?_
  refine z_eqh zpu_pu ?_
  exact z_vret rfl d_AL_init_11 (zlq rfl) (zlq rfl) (⟨rfl, rfl⟩)
abbrev rm_AL_size : Room := { frames := 0, cells := 0, slots := 0, locals := 0 }
set_option maxHeartbeats 4000000 in
set_option maxRecDepth 100000 in
theorem c_AL_size (l : Launch) (E : zE) (h : zPH) (a : Nat) (x0 x1 : Value) (n : Int32) (ha : h a = some (zob 9 [x0, x1, .int n])) : zM l E y_AL_size b_AL_size 1 ((some .int)) rm_AL_size [.ref a] (h) (zPi n h) := by
  refine zM_w (by decide +kernel) rfl rfl (fun sz => ?_)
  refine z_aload_n d_AL_size_0 rfl ?_
  refine z_get fa_AL_48 d_AL_size_1 (ha) rfl ?_
  exact z_iret rfl d_AL_size_4 (zlq rfl) (zlq rfl) (⟨rfl, rfl⟩)
abbrev rm_Prc_checkIndex : Room := { frames := 0, cells := 0, slots := 0, locals := 0 }
set_option maxHeartbeats 4000000 in
set_option maxRecDepth 100000 in
theorem c_Prc_checkIndex (l : Launch) (E : zE) (h : zPH) (i n : Nat) (hi : i < n) (hn : n < 2 ^ 31) : zM l E y_Prc_checkIndex b_Prc_checkIndex 3 ((some .int)) rm_Prc_checkIndex [.int (nI i), .int (nI n), .null] (h) (zPi (nI i) h) := by
  refine zM_w (by decide +kernel) rfl rfl (fun sz => ?_)
  refine z_iload_n d_Prc_checkIndex_0 rfl ?_
  refine z_if_lt (tgt := 9) d_Prc_checkIndex_1 (by decide) (fun q => absurd q (nI_pos (by omega))) (fun _ => ?_)
  refine z_iload_n d_Prc_checkIndex_4 rfl ?_
  refine z_iload_n d_Prc_checkIndex_5 rfl ?_
  refine z_icmp_lt (tgt := 16) d_Prc_checkIndex_6 (by decide) (fun c6 => ?_) (fun c6 => absurd (nI_lt hi hn) c6)
  have c6n := (nI_ltI (by omega) (by omega)).mp c6
  refine z_iload_n d_Prc_checkIndex_16 rfl ?_
  exact z_iret rfl d_Prc_checkIndex_17 (zlq rfl) (zlq rfl) (⟨rfl, rfl⟩)
abbrev rm_Objs_checkIndex : Room := { frames := 1, cells := 0, slots := 0, locals := 22 }
set_option maxHeartbeats 4000000 in
set_option maxRecDepth 100000 in
theorem c_Objs_checkIndex (l : Launch) (E : zE) (h : zPH) (i n : Nat) (hi : i < n) (hn : n < 2 ^ 31) : zM l E y_Objs_checkIndex b_Objs_checkIndex 2 ((some .int)) rm_Objs_checkIndex [.int (nI i), .int (nI n)] (h) (zPi (nI i) h) := by
  refine zM_w (by decide +kernel) rfl rfl (fun sz => ?_)
  refine z_iload_n d_Objs_checkIndex_0 rfl ?_
  refine z_iload_n d_Objs_checkIndex_1 rfl ?_
  refine z_null d_Objs_checkIndex_2 ?_
  refine z_cSi (c_Prc_checkIndex l E _ (i) (n) (by omega) (by omega)) cb_Prc_checkIndex cs_Prc_checkIndex ln_Objs_105 rfl rfl (zlq rfl) rfl (zlq rfl) (zlq rfl) d_Objs_checkIndex_3 ?_
  exact z_iret rfl d_Objs_checkIndex_6 (zlq rfl) (zlq rfl) (⟨rfl, rfl⟩)
abbrev rm_AL_elementData : Room := { frames := 0, cells := 0, slots := 0, locals := 0 }
set_option maxHeartbeats 4000000 in
set_option maxRecDepth 100000 in
theorem c_AL_elementData (l : Launch) (E : zE) (h : zPH) (L ea n cap : Nat) (f : Nat → Option Nat) (md : Int32) (hL : h L = some (zob 9 [.int md, .ref ea, .int (nI n)])) (he : h ea = some (zeO E cap f)) (hc : n ≤ cap) (hb : cap < 2 ^ 30) (i : Nat) (hi : i < n) : zM l E y_AL_elementData b_AL_elementData 2 ((some (.object "java/lang/Object"))) rm_AL_elementData [.ref L, .int (nI i)] (h) (zPr (f i) h) := by
  refine zM_w (by decide +kernel) rfl rfl (fun sz => ?_)
  refine z_aload_n d_AL_elementData_0 rfl ?_
  refine z_get fa_AL_9 d_AL_elementData_1 (hL) rfl ?_
  refine z_iload_n d_AL_elementData_4 rfl ?_
  refine z_aaldO (i) d_AL_elementData_5 (he) rfl (by omega) (by omega) ?_
  exact z_aret (r := (f) (i)) rfl (Or.inl ⟨_, rfl⟩) d_AL_elementData_6 (zlq rfl) (zlq rfl) (⟨rfl, rfl⟩)
abbrev rm_AL_get : Room := { frames := 2, cells := 0, slots := 0, locals := 43 }
set_option maxHeartbeats 4000000 in
set_option maxRecDepth 100000 in
theorem c_AL_get (l : Launch) (E : zE) (h : zPH) (L ea n cap : Nat) (f : Nat → Option Nat) (md : Int32) (hL : h L = some (zob 9 [.int md, .ref ea, .int (nI n)])) (he : h ea = some (zeO E cap f)) (hc : n ≤ cap) (hb : cap < 2 ^ 30) (i : Nat) (hi : i < n) : zM l E y_AL_get b_AL_get 2 ((some (.object "java/lang/Object"))) rm_AL_get [.ref L, .int (nI i)] (h) (zPr (f i) h) := by
  refine zM_w (by decide +kernel) rfl rfl (fun sz => ?_)
  refine z_iload_n d_AL_get_0 rfl ?_
  refine z_aload_n d_AL_get_1 rfl ?_
  refine z_get fa_AL_48 d_AL_get_2 (hL) rfl ?_
  refine z_cSi (c_Objs_checkIndex l E _ (i) (n) (by omega) (by omega)) cb_Objs_checkIndex cs_Objs_checkIndex ln_AL_118 rfl rfl (zlq rfl) rfl (zlq rfl) (zlq rfl) d_AL_get_5 ?_
  refine z_pop d_AL_get_8 rfl ?_
  refine z_aload_n d_AL_get_9 rfl ?_
  refine z_iload_n d_AL_get_10 rfl ?_
  refine z_cVr (c_AL_elementData l E _ _ _ _ _ f _ hL he hc hb (i) (by omega)) cb_AL_elementData ci_AL_elementData ln_AL_123 (hL) rfl rfl (zlq rfl) rfl (zlq rfl) (zlq rfl) d_AL_get_11 ?_
  exact z_aret (r := f (i)) rfl (Or.inl ⟨_, rfl⟩) d_AL_get_14 (zlq rfl) (zlq rfl) (⟨rfl, rfl⟩)
abbrev rm_ArS_newLength : Room := { frames := 1, cells := 0, slots := 0, locals := 25 }
set_option maxHeartbeats 4000000 in
set_option maxRecDepth 100000 in
theorem c_ArS_newLength (l : Launch) (E : zE) (h : zPH) (o : Nat) (h2 : 2 ≤ o) (hb : o < 2 ^ 29) : zM l E y_ArS_newLength b_ArS_newLength 4 ((some .int)) rm_ArS_newLength [.int (nI o), .int (nI 1), .int (nI (o / 2))] (h) (zPi (nI (o + o / 2)) h) := by
  refine zM_w (by decide +kernel) rfl rfl (fun sz => ?_)
  refine z_iload_n d_ArS_newLength_0 rfl ?_
  refine z_iload_n d_ArS_newLength_1 rfl ?_
  refine z_iload_n d_ArS_newLength_2 rfl ?_
  refine z_max k_175 k_176 k_68 k_177 d_ArS_newLength_3 (zlq rfl) (zlq rfl) (zlq rfl) (zlq rfl) ?_
  refine z_top (y := nI (o / 2)) (by by_cases c : 1 < o / 2; rw [if_pos (nI_lt c (by omega))]; rw [if_neg (nI_nlt (by omega) (by omega)), show o / 2 = 1 by omega]) ?_
  refine z_iadd d_ArS_newLength_6 ?_
  refine z_top (nI_add (o) (o / 2)) ?_
  refine z_istore_n d_ArS_newLength_7 (zlt rfl) ?_
  refine z_iconst d_ArS_newLength_8 ic_0 ?_
  refine z_iload_n d_ArS_newLength_9 rfl ?_
  refine z_icmp_ge (tgt := 21) d_ArS_newLength_10 (by decide) (fun c10 => absurd c10 (nI_ge (by omega) (by omega))) (fun c10 => ?_)
  have c10n := (not_congr (nI_leI (by omega) (by omega))).mp c10
  refine z_iload_n d_ArS_newLength_13 rfl ?_
  refine z_ldc k_178 d_ArS_newLength_14 ?_
  refine z_top (show (2147483639 : Int32) = nI 2147483639 by decide +kernel) ?_
  refine z_icmp_gt (tgt := 21) d_ArS_newLength_16 (by decide) (fun c16 => absurd c16 (nI_nlt (by omega) (by decide))) (fun c16 => ?_)
  have c16n := (not_congr (nI_ltI (by omega) (by omega))).mp c16
  refine z_iload_n d_ArS_newLength_19 rfl ?_
  exact z_iret rfl d_ArS_newLength_20 (zlq rfl) (zlq rfl) (⟨rfl, rfl⟩)
abbrev rm_Ars_copyOf1 (s : Nat) : Room := { frames := 1, cells := 1, slots := s, locals := 40 }
abbrev rm_Ars_copyOf0 (s : Nat) : Room := { frames := 2, cells := 1, slots := s, locals := 63 }
set_option maxHeartbeats 4000000 in
set_option maxRecDepth 100000 in
theorem c_Ars_copyOf1 (l : Launch) (E : zE) (h : zPH) (ea n n' : Nat) (f : Nat → Option Nat) (he : h ea = some (zeO E n f)) (hn : n ≤ n') (hb : n' < 2 ^ 27) (hel : ∀ i, i < n → ∀ y, f i = some y → zel h y) : zM l E y_Ars_copyOf1 b_Ars_copyOf1 4 ((some (.array (.object "java/lang/Object")))) (rm_Ars_copyOf1 n') [.ref ea, .int (nI n'), .ref (zmi E)] (h) (fun v h' => ∃ q, h q = none ∧ v = some (.ref q) ∧ h' = zpu h q (zeO E n' (va_cpy f (fun _ => none) 0 0 n))) := by
  refine zM_w (by decide +kernel) rfl rfl (fun sz => ?_)
  refine z_aload_n d_Ars_copyOf1_0 rfl ?_
  refine z_ldcM k_203 d_Ars_copyOf1_1 ?_
  refine z_acmp_ne (x := some _) (y := some _) (tgt := 13) d_Ars_copyOf1_3 (by decide) (fun c => absurd rfl c) (fun _ => ?_)
  refine z_iload_n d_Ars_copyOf1_6 rfl ?_
  refine z_newO (N := n') k_205 d_Ars_copyOf1_7 (nI_pos (by omega)) (nI_clamp (by omega)) (by omega) (zlq rfl) (by show 0 + n' ≤ n'; omega) (fun q hq => ?_)
  have nq : q ≠ ea := zne hq he
  refine z_goto (tgt := 24) d_Ars_copyOf1_10 (by decide) ?_
  refine z_astore_n d_Ars_copyOf1_24 (zlt rfl) ?_
  refine z_aload_n d_Ars_copyOf1_25 rfl ?_
  refine z_iconst d_Ars_copyOf1_26 ic_0 ?_
  refine z_aload_n d_Ars_copyOf1_27 rfl ?_
  refine z_iconst d_Ars_copyOf1_28 ic_0 ?_
  refine z_aload_n d_Ars_copyOf1_29 rfl ?_
  refine z_alenO d_Ars_copyOf1_30 ((zpu_n (Ne.symm nq)).trans he) ?_
  refine z_iload_n d_Ars_copyOf1_31 rfl ?_
  refine z_min k_206 k_207 k_68 k_208 d_Ars_copyOf1_32 (zlq rfl) (zlq rfl) (zlq rfl) (by show 0 + n' ≤ n'; omega) ?_
  refine z_top (y := nI n) (if_neg (nI_nlt hn (by omega))) ?_
  refine z_copy (a0 := ea) (a := q) k_209 ((zpu_n (Ne.symm nq)).trans he) zpu_s (Nat.le_refl n) hn (by omega) (fun i hi y hy => ?_) d_Ars_copyOf1_35 (zlq rfl) (zlq rfl) ?_
  · obtain ⟨ci, fs, r, e1, e2, e3⟩ := hel i hi y hy
    exact ⟨ci, fs, r, (zpu_n (Ne.symm (zne hq e1))).trans e1, e2, e3⟩
  refine z_eqh zpu_pu ?_
  refine z_aload_n d_Ars_copyOf1_38 rfl ?_
  exact z_aret (r := some q) rfl (Or.inr ⟨_, rfl⟩) d_Ars_copyOf1_39 (zlq rfl) (by show 0 + n' ≤ n'; omega) ⟨q, hq, rfl, rfl⟩
set_option maxHeartbeats 4000000 in
set_option maxRecDepth 100000 in
theorem c_Ars_copyOf0 (l : Launch) (E : zE) (h : zPH) (ea n n' : Nat) (f : Nat → Option Nat) (he : h ea = some (zeO E n f)) (hn : n ≤ n') (hb : n' < 2 ^ 27) (hel : ∀ i, i < n → ∀ y, f i = some y → zel h y) : zM l E y_Ars_copyOf0 b_Ars_copyOf0 2 ((some (.array (.object "java/lang/Object")))) (rm_Ars_copyOf0 n') [.ref ea, .int (nI n')] (h) (fun v h' => ∃ q, h q = none ∧ v = some (.ref q) ∧ h' = zpu h q (zeO E n' (va_cpy f (fun _ => none) 0 0 n))) := by
  refine zM_w (by decide +kernel) rfl rfl (fun sz => ?_)
  refine z_aload_n d_Ars_copyOf0_0 rfl ?_
  refine z_iload_n d_Ars_copyOf0_1 rfl ?_
  refine z_aload_n d_Ars_copyOf0_2 rfl ?_
  refine z_getC k_185 he d_Ars_copyOf0_3 (zlq rfl) (zlq rfl) ?_
  refine z_callS (c_Ars_copyOf1 l E h ea n n' f he hn hb hel) cb_Ars_copyOf1 cs_Ars_copyOf1 ln_Ars_300 rfl rfl (zlq rfl) rfl (zlq rfl) (by show 0 + n' ≤ n'; omega) d_Ars_copyOf0_6 (fun v h' hv => ?_)
  obtain ⟨q, hq, rfl, rfl⟩ := hv
  exact z_aret (r := some q) rfl (Or.inr ⟨_, rfl⟩) d_Ars_copyOf0_9 (zlq rfl) (by show 0 + n' ≤ n'; omega) ⟨q, hq, rfl, rfl⟩
abbrev rm_AL_grow1 (s : Nat) : Room := { frames := 3, cells := 1, slots := s, locals := 84 }
abbrev rm_AL_grow0 (s : Nat) : Room := { frames := 4, cells := 1, slots := s, locals := 107 }
abbrev rm_AL_add1 (s : Nat) : Room := { frames := 5, cells := 1, slots := s, locals := 127 }
abbrev rm_AL_add0 (s : Nat) : Room := { frames := 6, cells := 1, slots := s, locals := 150 }
set_option maxHeartbeats 4000000 in
set_option maxRecDepth 100000 in
theorem c_AL_grow1 (l : Launch) (E : zE) (h : zPH) (L ea n : Nat) (f : Nat → Option Nat) (md : Int32) (hL : h L = some (zob 9 [.int md, .ref ea, .int (nI n)])) (he : h ea = some (zeO E n f)) (h2 : 2 ≤ n) (hb : n < 2 ^ 25) (hel : ∀ i, i < n → ∀ y, f i = some y → zel h y) : zM l E y_AL_grow1 b_AL_grow1 4 ((some (.array (.object "java/lang/Object")))) (rm_AL_grow1 (n + n / 2)) [.ref L, .int (nI (n + 1))] (h) (fun v h' => ∃ q, h q = none ∧ v = some (.ref q) ∧ h' = zpu (zpu h q (zeO E (n + n / 2) (va_cpy f (fun _ => none) 0 0 n))) L (zob 9 [.int md, .ref q, .int (nI n)])) := by
  refine zM_w (by decide +kernel) rfl rfl (fun sz => ?_)
  refine z_aload_n d_AL_grow1_0 rfl ?_
  refine z_get fa_AL_9 d_AL_grow1_1 hL rfl ?_
  refine z_alenO d_AL_grow1_4 he ?_
  refine z_istore_n d_AL_grow1_5 (zlt rfl) ?_
  refine z_iload_n d_AL_grow1_6 rfl ?_
  refine z_if_gt (tgt := 20) d_AL_grow1_7 (by decide) (fun _ => ?_) (fun c => absurd (show (0 : Int32) < nI n from by rw [← nI_0]; exact nI_lt (by omega) (by omega)) c)
  refine z_iload_n d_AL_grow1_20 rfl ?_
  refine z_iload_n d_AL_grow1_21 rfl ?_
  refine z_iload_n d_AL_grow1_22 rfl ?_
  refine z_isub d_AL_grow1_23 ?_
  refine z_top (y := nI 1) ((pk_sub (by omega)).trans (by rw [Nat.add_sub_cancel_left])) ?_
  refine z_iload_n d_AL_grow1_24 rfl ?_
  refine z_iconst d_AL_grow1_25 ic_1 ?_
  refine z_ishr d_AL_grow1_26 ?_
  refine z_top (y := nI (n / 2)) ((pk_shrN (by omega) (nI 1 &&& 31) 1 (by decide +kernel)).trans (by rw [Nat.pow_one])) ?_
  refine z_cSi (c_ArS_newLength l E h n h2 (by omega)) cb_ArS_newLength cs_ArS_newLength ln_AL_73 rfl rfl (zlq rfl) rfl (zlq rfl) (by show 0 + 0 ≤ n + n / 2; omega) d_AL_grow1_27 ?_
  refine z_istore_n d_AL_grow1_30 (zlt rfl) ?_
  refine z_aload_n d_AL_grow1_31 rfl ?_
  refine z_aload_n d_AL_grow1_32 rfl ?_
  refine z_get fa_AL_9 d_AL_grow1_33 hL rfl ?_
  refine z_iload_n d_AL_grow1_36 rfl ?_
  refine z_callS (c_Ars_copyOf0 l E h ea n (n + n / 2) f he (by omega) (by omega) hel) cb_Ars_copyOf0 cs_Ars_copyOf0 ln_AL_66 rfl rfl (zlq rfl) rfl (zlq rfl) (by show 0 + 0 + (n + n / 2) ≤ n + n / 2; omega) d_AL_grow1_37 (fun v h' hv => ?_)
  obtain ⟨q, hq, rfl, rfl⟩ := hv
  have nq : q ≠ L := zne hq hL
  refine z_dup_x1 d_AL_grow1_40 rfl rfl ?_
  refine z_put fp_AL_9 d_AL_grow1_41 ((zpu_n (Ne.symm nq)).trans hL) rfl rfl (zlt rfl) ?_
  exact z_aret (r := some q) rfl (Or.inr ⟨_, rfl⟩) d_AL_grow1_44 (zlq rfl) (by show 0 + 0 + (n + n / 2) ≤ n + n / 2; omega) ⟨q, hq, rfl, rfl⟩
set_option maxHeartbeats 4000000 in
set_option maxRecDepth 100000 in
theorem c_AL_grow1E (l : Launch) (E : zE) (h : zPH) (L : Nat) (md : Int32) (hL : h L = some (zob 9 [.int md, .ref (zt0 E), .int (nI 0)])) : zM l E y_AL_grow1 b_AL_grow1 4 ((some (.array (.object "java/lang/Object")))) (rm_AL_grow1 10) [.ref L, .int (nI 1)] (h) (fun v h' => ∃ q, h q = none ∧ v = some (.ref q) ∧ h' = zpu (zpu h q (zeO E 10 (fun _ => none))) L (zob 9 [.int md, .ref q, .int (nI 0)])) := by
  refine zM_w (by decide +kernel) rfl rfl (fun sz => ?_)
  refine z_aload_n d_AL_grow1_0 rfl ?_
  refine z_get fa_AL_9 d_AL_grow1_1 hL rfl ?_
  refine z_alen0 d_AL_grow1_4 ?_
  refine z_istore_n d_AL_grow1_5 (zlt rfl) ?_
  refine z_iload_n d_AL_grow1_6 rfl ?_
  refine z_if_gt (tgt := 20) d_AL_grow1_7 (by decide) (fun c => absurd c (by decide)) (fun _ => ?_)
  refine z_aload_n d_AL_grow1_10 rfl ?_
  refine z_get fa_AL_9 d_AL_grow1_11 hL rfl ?_
  refine z_gets0 k_99 d_AL_grow1_14 ?_
  refine z_acmp_eq (x := some _) (y := some _) (tgt := 45) d_AL_grow1_17 (by decide) (fun _ => ?_) (fun c => absurd rfl c)
  refine z_aload_n d_AL_grow1_45 rfl ?_
  refine z_bipush d_AL_grow1_46 bp_10 ?_
  refine z_iload_n d_AL_grow1_48 rfl ?_
  refine z_max k_212 k_176 k_68 k_177 d_AL_grow1_49 (zlq rfl) (zlq rfl) (zlq rfl) (zlq rfl) ?_
  refine z_top (y := nI 10) (by decide +kernel) ?_
  refine z_newO (N := 10) k_213 d_AL_grow1_52 (nI_pos (by omega)) (nI_clamp (by omega)) (by omega) (zlq rfl) (zlq rfl) (fun q hq => ?_)
  have nq : q ≠ L := zne hq hL
  refine z_dup_x1 d_AL_grow1_55 rfl rfl ?_
  refine z_put fp_AL_9 d_AL_grow1_56 ((zpu_n (Ne.symm nq)).trans hL) rfl rfl (zlt rfl) ?_
  exact z_aret (r := some q) rfl (Or.inr ⟨_, rfl⟩) d_AL_grow1_59 (zlq rfl) (zlq rfl) ⟨q, hq, rfl, rfl⟩
set_option maxHeartbeats 4000000 in
set_option maxRecDepth 100000 in
theorem c_AL_grow0 (l : Launch) (E : zE) (h : zPH) (L ea n : Nat) (f : Nat → Option Nat) (md : Int32) (hL : h L = some (zob 9 [.int md, .ref ea, .int (nI n)])) (he : h ea = some (zeO E n f)) (h2 : 2 ≤ n) (hb : n < 2 ^ 25) (hel : ∀ i, i < n → ∀ y, f i = some y → zel h y) : zM l E y_AL_grow0 b_AL_grow0 1 ((some (.array (.object "java/lang/Object")))) (rm_AL_grow0 (n + n / 2)) [.ref L] (h) (fun v h' => ∃ q, h q = none ∧ v = some (.ref q) ∧ h' = zpu (zpu h q (zeO E (n + n / 2) (va_cpy f (fun _ => none) 0 0 n))) L (zob 9 [.int md, .ref q, .int (nI n)])) := by
  refine zM_w (by decide +kernel) rfl rfl (fun sz => ?_)
  refine z_aload_n d_AL_grow0_0 rfl ?_
  refine z_aload_n d_AL_grow0_1 rfl ?_
  refine z_get fa_AL_48 d_AL_grow0_2 hL rfl ?_
  refine z_iconst d_AL_grow0_5 ic_1 ?_
  refine z_iadd d_AL_grow0_6 ?_
  refine z_top (nI_add n 1) ?_
  refine z_callV (c_AL_grow1 l E h L ea n f md hL he h2 hb hel) cb_AL_grow1 ci_AL_grow1 ln_AL_69 hL rfl rfl (zlq rfl) rfl (zlq rfl) (by show 0 + (n + n / 2) ≤ (n + n / 2); omega) d_AL_grow0_7 (fun v h' hv => ?_)
  obtain ⟨q, hq, rfl, rfl⟩ := hv
  exact z_aret (r := some q) rfl (Or.inr ⟨_, rfl⟩) d_AL_grow0_10 (zlq rfl) (by show 0 + (n + n / 2) ≤ (n + n / 2); omega) ⟨q, hq, rfl, rfl⟩
set_option maxHeartbeats 4000000 in
set_option maxRecDepth 100000 in
theorem c_AL_grow0E (l : Launch) (E : zE) (h : zPH) (L : Nat) (md : Int32) (hL : h L = some (zob 9 [.int md, .ref (zt0 E), .int (nI 0)])) : zM l E y_AL_grow0 b_AL_grow0 1 ((some (.array (.object "java/lang/Object")))) (rm_AL_grow0 10) [.ref L] (h) (fun v h' => ∃ q, h q = none ∧ v = some (.ref q) ∧ h' = zpu (zpu h q (zeO E 10 (fun _ => none))) L (zob 9 [.int md, .ref q, .int (nI 0)])) := by
  refine zM_w (by decide +kernel) rfl rfl (fun sz => ?_)
  refine z_aload_n d_AL_grow0_0 rfl ?_
  refine z_aload_n d_AL_grow0_1 rfl ?_
  refine z_get fa_AL_48 d_AL_grow0_2 hL rfl ?_
  refine z_iconst d_AL_grow0_5 ic_1 ?_
  refine z_iadd d_AL_grow0_6 ?_
  refine z_top (nI_add 0 1) ?_
  refine z_callV (c_AL_grow1E l E h L md hL) cb_AL_grow1 ci_AL_grow1 ln_AL_69 hL rfl rfl (zlq rfl) rfl (zlq rfl) (by show 0 + 10 ≤ 10; omega) d_AL_grow0_7 (fun v h' hv => ?_)
  obtain ⟨q, hq, rfl, rfl⟩ := hv
  exact z_aret (r := some q) rfl (Or.inr ⟨_, rfl⟩) d_AL_grow0_10 (zlq rfl) (by show 0 + 10 ≤ 10; omega) ⟨q, hq, rfl, rfl⟩
