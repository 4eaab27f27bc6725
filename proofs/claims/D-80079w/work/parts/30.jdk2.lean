/-! the JDK: ArrayList.add, clear -/
theorem zpu_3 {h : zPH} {L a : Nat} {o0 o1 a1 : va_E} (n : L ≠ a) : zpu (zpu (zpu h L o0) a a1) L o1 = zpu (zpu h a a1) L o1 := by
  rw [zpu_comm n, zpu_pu]
theorem zpu_4 {h : zPH} {L q : Nat} {o0 o1 a0 a1 : va_E} (n : L ≠ q) : zpu (zpu (zpu (zpu h q a0) L o0) q a1) L o1 = zpu (zpu h q a1) L o1 := by
  rw [zpu_comm n, zpu_pu, zpu_pu]
theorem zel_pu {h : zPH} {a y ci : Nat} {fs gs : List Value} (ha : h a = some (zob ci fs)) (hy : zel h y) : zel (zpu h a (zob ci gs)) y := by
  obtain ⟨cj, js, r, e1, e2, e3⟩ := hy
  by_cases c : y = a
  · subst c
    rw [ha] at e1
    cases e1
    exact ⟨_, gs, r, zpu_s, e2, e3⟩
  · exact ⟨cj, js, r, (zpu_n c).trans e1, e2, e3⟩
theorem zel_new {h : zPH} {q y : Nat} {e : va_E} (hq : h q = none) (hy : zel h y) : zel (zpu h q e) y := by
  obtain ⟨cj, js, r, e1, e2, e3⟩ := hy
  exact ⟨cj, js, r, (zpu_n (Ne.symm (zne hq e1))).trans e1, e2, e3⟩
abbrev rm_AL_add1R : Room := { frames := 0, cells := 0, slots := 0, locals := 0 }
abbrev rm_AL_addR : Room := { frames := 1, cells := 0, slots := 0, locals := 23 }
set_option maxHeartbeats 4000000 in
set_option maxRecDepth 100000 in
theorem c_AL_add1R (l : Launch) (E : zE) (h : zPH) (L ea n cap x : Nat) (f : Nat → Option Nat) (md : Int32) (hL : h L = some (zob 9 [.int md, .ref ea, .int (nI n)])) (he : h ea = some (zeO E cap f)) (hc : n < cap) (hb : cap < 2 ^ 30) (hx : zel h x) : zM l E y_AL_add1 b_AL_add1 4 (none) rm_AL_add1R [.ref L, .ref x, .ref ea, .int (nI n)] (h) (zPv (zpu (zpu h ea (zeO E cap (va_up f n (some x)))) L (zob 9 [.int md, .ref ea, .int (nI (n + 1))]))) := by
  refine zM_w (by decide +kernel) rfl rfl (fun sz => ?_)
  have nLe : L ≠ ea := zne_e hL he zoa_ne
  obtain ⟨ci, fs, r, x1, x2, x3⟩ := hx
  refine z_iload_n d_AL_add1_0 rfl ?_
  refine z_aload_n d_AL_add1_1 rfl ?_
  refine z_alenO d_AL_add1_2 he ?_
  refine z_icmp_ne (tgt := 11) d_AL_add1_3 (by decide) (fun _ => ?_) (fun c => absurd ((nI_eq (by omega) (by omega)).mp c) (by omega))
  refine z_aload_n d_AL_add1_11 rfl ?_
  refine z_iload_n d_AL_add1_12 rfl ?_
  refine z_aload_n d_AL_add1_13 rfl ?_
  refine z_aastO n d_AL_add1_14 he x1 x2 x3 rfl hc (by omega) ?_
  refine z_aload_n d_AL_add1_15 rfl ?_
  refine z_iload_n d_AL_add1_16 rfl ?_
  refine z_iconst d_AL_add1_17 ic_1 ?_
  refine z_iadd d_AL_add1_18 ?_
  refine z_top (nI_add n 1) ?_
  refine z_put fp_AL_48 d_AL_add1_19 ((zpu_n nLe).trans hL) (vp_nar_int _) rfl (zlt rfl) ?_
  exact z_vret rfl d_AL_add1_22 (zlq rfl) (zlq rfl) ⟨rfl, rfl⟩
set_option maxHeartbeats 4000000 in
set_option maxRecDepth 100000 in
theorem c_AL_add1G (l : Launch) (E : zE) (h : zPH) (L ea n x : Nat) (f : Nat → Option Nat) (md : Int32) (hL : h L = some (zob 9 [.int md, .ref ea, .int (nI n)])) (he : h ea = some (zeO E n f)) (h2 : 2 ≤ n) (hb : n < 2 ^ 25) (hel : ∀ i, i < n → ∀ y, f i = some y → zel h y) (hx : zel h x) : zM l E y_AL_add1 b_AL_add1 4 (none) (rm_AL_add1 (n + n / 2)) [.ref L, .ref x, .ref (ea), .int (nI n)] (h) (fun v h' => v = none ∧ ∃ q, h q = none ∧ h' = zpu (zpu h q (zeO E (n + n / 2) (va_up (va_cpy f (fun _ => none) 0 0 n) n (some x)))) L (zob 9 [.int md, .ref q, .int (nI (n + 1))])) := by
  refine zM_w (by decide +kernel) rfl rfl (fun sz => ?_)
  refine z_iload_n d_AL_add1_0 rfl ?_
  refine z_aload_n d_AL_add1_1 rfl ?_
  refine z_alenO d_AL_add1_2 he ?_
  refine z_icmp_ne (tgt := 11) d_AL_add1_3 (by decide) (fun c => absurd (by first | rfl | exact nI_0) c) (fun _ => ?_)
  refine z_aload_n d_AL_add1_6 rfl ?_
  refine z_callV (c_AL_grow0 l E h L ea n f md hL he h2 hb hel) cb_AL_grow0 ci_AL_grow0 ln_AL_129 hL rfl rfl (zlq rfl) rfl (zlq rfl) (by show 0 + (n + n / 2) ≤ (n + n / 2); omega) d_AL_add1_7 (fun v h' hv => ?_)
  obtain ⟨q, hq, rfl, rfl⟩ := hv
  have nq : q ≠ L := zne hq hL
  obtain ⟨ci, fs, r, x1, x2, x3⟩ := zel_pu ((zpu_n (Ne.symm nq)).trans hL) (zel_new (e := zeO E (n + n / 2) (va_cpy f (fun _ => none) 0 0 n)) hq hx)
  refine z_astore_n d_AL_add1_10 (zlt rfl) ?_
  refine z_aload_n d_AL_add1_11 rfl ?_
  refine z_iload_n d_AL_add1_12 rfl ?_
  refine z_aload_n d_AL_add1_13 rfl ?_
  refine z_aastO (N := (n + n / 2)) (f := (va_cpy f (fun _ => none) 0 0 n)) n d_AL_add1_14 ((zpu_n nq).trans zpu_s) x1 x2 x3 rfl (by omega) (by omega) ?_
  refine z_aload_n d_AL_add1_15 rfl ?_
  refine z_iload_n d_AL_add1_16 rfl ?_
  refine z_iconst d_AL_add1_17 ic_1 ?_
  refine z_iadd d_AL_add1_18 ?_
  refine z_top (nI_add n 1) ?_
  refine z_put fp_AL_48 d_AL_add1_19 ((zpu_n (Ne.symm nq)).trans zpu_s) (vp_nar_int _) rfl (zlt rfl) ?_
  refine z_eqh (zpu_4 (Ne.symm nq)) ?_
  exact z_vret rfl d_AL_add1_22 (zlq rfl) (by show 0 + (n + n / 2) ≤ (n + n / 2); omega) ⟨rfl, q, hq, rfl⟩
set_option maxHeartbeats 4000000 in
set_option maxRecDepth 100000 in
theorem c_AL_add1E (l : Launch) (E : zE) (h : zPH) (L x : Nat) (md : Int32) (hL : h L = some (zob 9 [.int md, .ref (zt0 E), .int (nI 0)])) (hx : zel h x) : zM l E y_AL_add1 b_AL_add1 4 (none) (rm_AL_add1 10) [.ref L, .ref x, .ref (zt0 E), .int (nI 0)] (h) (fun v h' => v = none ∧ ∃ q, h q = none ∧ h' = zpu (zpu h q (zeO E 10 (va_up (fun _ => none) 0 (some x)))) L (zob 9 [.int md, .ref q, .int (nI (0 + 1))])) := by
  refine zM_w (by decide +kernel) rfl rfl (fun sz => ?_)
  refine z_iload_n d_AL_add1_0 rfl ?_
  refine z_aload_n d_AL_add1_1 rfl ?_
  refine z_alen0 d_AL_add1_2 ?_
  refine z_icmp_ne (tgt := 11) d_AL_add1_3 (by decide) (fun c => absurd (by first | rfl | exact nI_0) c) (fun _ => ?_)
  refine z_aload_n d_AL_add1_6 rfl ?_
  refine z_callV (c_AL_grow0E l E h L md hL) cb_AL_grow0 ci_AL_grow0 ln_AL_129 hL rfl rfl (zlq rfl) rfl (zlq rfl) (by show 0 + 10 ≤ 10; omega) d_AL_add1_7 (fun v h' hv => ?_)
  obtain ⟨q, hq, rfl, rfl⟩ := hv
  have nq : q ≠ L := zne hq hL
  obtain ⟨ci, fs, r, x1, x2, x3⟩ := zel_pu ((zpu_n (Ne.symm nq)).trans hL) (zel_new (e := zeO E 10 (fun _ => none)) hq hx)
  refine z_astore_n d_AL_add1_10 (zlt rfl) ?_
  refine z_aload_n d_AL_add1_11 rfl ?_
  refine z_iload_n d_AL_add1_12 rfl ?_
  refine z_aload_n d_AL_add1_13 rfl ?_
  refine z_aastO (N := 10) (f := (fun _ => none)) 0 d_AL_add1_14 ((zpu_n nq).trans zpu_s) x1 x2 x3 rfl (by omega) (by omega) ?_
  refine z_aload_n d_AL_add1_15 rfl ?_
  refine z_iload_n d_AL_add1_16 rfl ?_
  refine z_iconst d_AL_add1_17 ic_1 ?_
  refine z_iadd d_AL_add1_18 ?_
  refine z_top (nI_add 0 1) ?_
  refine z_put fp_AL_48 d_AL_add1_19 ((zpu_n (Ne.symm nq)).trans zpu_s) (vp_nar_int _) rfl (zlt rfl) ?_
  refine z_eqh (zpu_4 (Ne.symm nq)) ?_
  exact z_vret rfl d_AL_add1_22 (zlq rfl) (by show 0 + 10 ≤ 10; omega) ⟨rfl, q, hq, rfl⟩
set_option maxHeartbeats 4000000 in
set_option maxRecDepth 100000 in
theorem c_AL_addR (l : Launch) (E : zE) (h : zPH) (L ea n cap x : Nat) (f : Nat → Option Nat) (md : Int32) (hL : h L = some (zob 9 [.int md, .ref ea, .int (nI n)])) (he : h ea = some (zeO E cap f)) (hc : n < cap) (hb : cap < 2 ^ 30) (hx : zel h x) : zM l E y_AL_add0 b_AL_add0 2 ((some .boolean)) rm_AL_addR [.ref L, .ref x] (h) (zPi (nI 1) (zpu (zpu h ea (zeO E cap (va_up f n (some x)))) L (zob 9 [.int (md + nI 1), .ref ea, .int (nI (n + 1))]))) := by
  refine zM_w (by decide +kernel) rfl rfl (fun sz => ?_)
  have nLe : L ≠ ea := zne_e hL he zoa_ne
  refine z_aload_n d_AL_add0_0 rfl ?_
  refine z_dup d_AL_add0_1 rfl ?_
  refine z_get fa_AL_63 d_AL_add0_2 hL rfl ?_
  refine z_iconst d_AL_add0_5 ic_1 ?_
  refine z_iadd d_AL_add0_6 ?_
  refine z_put fp_AL_63 d_AL_add0_7 hL (vp_nar_int _) rfl (zlt rfl) ?_
  refine z_aload_n d_AL_add0_10 rfl ?_
  refine z_aload_n d_AL_add0_11 rfl ?_
  refine z_aload_n d_AL_add0_12 rfl ?_
  refine z_get fa_AL_9 d_AL_add0_13 zpu_s rfl ?_
  refine z_aload_n d_AL_add0_16 rfl ?_
  refine z_get fa_AL_48 d_AL_add0_17 zpu_s rfl ?_
  refine z_cVv (c_AL_add1R l E _ L ea n cap x f (md + nI 1) zpu_s ((zpu_n (Ne.symm nLe)).trans he) hc hb (zel_pu hL hx)) cb_AL_add1 ci_AL_add1 ln_AL_131 zpu_s rfl rfl (zlq rfl) rfl (zlq rfl) (zlq rfl) d_AL_add0_20 ?_
  refine z_eqh (zpu_3 nLe) ?_
  refine z_iconst d_AL_add0_23 ic_1 ?_
  exact z_zret rfl nz_1 d_AL_add0_24 (zlq rfl) (zlq rfl) ⟨rfl, rfl⟩
set_option maxHeartbeats 4000000 in
set_option maxRecDepth 100000 in
theorem c_AL_addG (l : Launch) (E : zE) (h : zPH) (L ea n x : Nat) (f : Nat → Option Nat) (md : Int32) (hL : h L = some (zob 9 [.int md, .ref ea, .int (nI n)])) (he : h ea = some (zeO E n f)) (h2 : 2 ≤ n) (hb : n < 2 ^ 25) (hel : ∀ i, i < n → ∀ y, f i = some y → zel h y) (hx : zel h x) : zM l E y_AL_add0 b_AL_add0 2 ((some .boolean)) (rm_AL_add0 (n + n / 2)) [.ref L, .ref x] (h) (fun v h' => v = some (.int (nI 1)) ∧ ∃ q, h q = none ∧ h' = zpu (zpu h q (zeO E (n + n / 2) (va_up (va_cpy f (fun _ => none) 0 0 n) n (some x)))) L (zob 9 [.int (md + nI 1), .ref q, .int (nI (n + 1))])) := by
  refine zM_w (by decide +kernel) rfl rfl (fun sz => ?_)
  have nLe : L ≠ ea := zne_e hL he zoa_ne
  refine z_aload_n d_AL_add0_0 rfl ?_
  refine z_dup d_AL_add0_1 rfl ?_
  refine z_get fa_AL_63 d_AL_add0_2 hL rfl ?_
  refine z_iconst d_AL_add0_5 ic_1 ?_
  refine z_iadd d_AL_add0_6 ?_
  refine z_put fp_AL_63 d_AL_add0_7 hL (vp_nar_int _) rfl (zlt rfl) ?_
  refine z_aload_n d_AL_add0_10 rfl ?_
  refine z_aload_n d_AL_add0_11 rfl ?_
  refine z_aload_n d_AL_add0_12 rfl ?_
  refine z_get fa_AL_9 d_AL_add0_13 zpu_s rfl ?_
  refine z_aload_n d_AL_add0_16 rfl ?_
  refine z_get fa_AL_48 d_AL_add0_17 zpu_s rfl ?_
  refine z_callV (c_AL_add1G l E _ L ea n x f (md + nI 1) zpu_s ((zpu_n (Ne.symm nLe)).trans he) h2 hb (fun i hi y hy => zel_pu hL (hel i hi y hy)) (zel_pu hL hx)) cb_AL_add1 ci_AL_add1 ln_AL_131 zpu_s rfl rfl (zlq rfl) rfl (zlq rfl) (by show 0 + (n + n / 2) ≤ (n + n / 2); omega) d_AL_add0_20 (fun v h' hv => ?_)
  obtain ⟨rfl, q, hq, rfl⟩ := hv
  have nq : q ≠ L := zne hq zpu_s
  have hq0 : h q = none := (zpu_n nq).symm.trans hq
  refine z_eqh (zpu_3 (Ne.symm nq)) ?_
  refine z_iconst d_AL_add0_23 ic_1 ?_
  exact z_zret rfl nz_1 d_AL_add0_24 (zlq rfl) (by show 0 + (n + n / 2) ≤ (n + n / 2); omega) ⟨rfl, q, hq0, rfl⟩
set_option maxHeartbeats 4000000 in
set_option maxRecDepth 100000 in
theorem c_AL_addE (l : Launch) (E : zE) (h : zPH) (L x : Nat) (md : Int32) (hL : h L = some (zob 9 [.int md, .ref (zt0 E), .int (nI 0)])) (hx : zel h x) : zM l E y_AL_add0 b_AL_add0 2 ((some .boolean)) (rm_AL_add0 10) [.ref L, .ref x] (h) (fun v h' => v = some (.int (nI 1)) ∧ ∃ q, h q = none ∧ h' = zpu (zpu h q (zeO E 10 (va_up (fun _ => none) 0 (some x)))) L (zob 9 [.int (md + nI 1), .ref q, .int (nI (0 + 1))])) := by
  refine zM_w (by decide +kernel) rfl rfl (fun sz => ?_)
  refine z_aload_n d_AL_add0_0 rfl ?_
  refine z_dup d_AL_add0_1 rfl ?_
  refine z_get fa_AL_63 d_AL_add0_2 hL rfl ?_
  refine z_iconst d_AL_add0_5 ic_1 ?_
  refine z_iadd d_AL_add0_6 ?_
  refine z_put fp_AL_63 d_AL_add0_7 hL (vp_nar_int _) rfl (zlt rfl) ?_
  refine z_aload_n d_AL_add0_10 rfl ?_
  refine z_aload_n d_AL_add0_11 rfl ?_
  refine z_aload_n d_AL_add0_12 rfl ?_
  refine z_get fa_AL_9 d_AL_add0_13 zpu_s rfl ?_
  refine z_aload_n d_AL_add0_16 rfl ?_
  refine z_get fa_AL_48 d_AL_add0_17 zpu_s rfl ?_
  refine z_callV (c_AL_add1E l E _ L x (md + nI 1) zpu_s (zel_pu hL hx)) cb_AL_add1 ci_AL_add1 ln_AL_131 zpu_s rfl rfl (zlq rfl) rfl (zlq rfl) (by show 0 + 10 ≤ 10; omega) d_AL_add0_20 (fun v h' hv => ?_)
  obtain ⟨rfl, q, hq, rfl⟩ := hv
  have nq : q ≠ L := zne hq zpu_s
  have hq0 : h q = none := (zpu_n nq).symm.trans hq
  refine z_eqh (zpu_3 (Ne.symm nq)) ?_
  refine z_iconst d_AL_add0_23 ic_1 ?_
  exact z_zret rfl nz_1 d_AL_add0_24 (zlq rfl) (by show 0 + 10 ≤ 10; omega) ⟨rfl, q, hq0, rfl⟩
abbrev rm_AL_clear : Room := { frames := 0, cells := 0, slots := 0, locals := 0 }
set_option maxHeartbeats 4000000 in
set_option maxRecDepth 100000 in
theorem c_AL_clear (l : Launch) (E : zE) (h : zPH) (L ea n cap : Nat) (f : Nat → Option Nat) (md : Int32) (hL : h L = some (zob 9 [.int md, .ref ea, .int (nI n)])) (he : h ea = some (zeO E cap f)) (hc : n ≤ cap) (hb : cap < 2 ^ 30) : zM l E y_AL_clear b_AL_clear 4 (none) rm_AL_clear [.ref L] (h) (zPv (zpu (zpu h ea (zeO E cap (fun j => if j < n then none else f j))) L (zob 9 [.int (md + nI 1), .ref ea, .int (nI 0)]))) := by
  refine zM_w (by decide +kernel) rfl rfl (fun sz => ?_)
  have nLe : L ≠ ea := zne_e hL he zoa_ne
  refine z_aload_n d_AL_clear_0 rfl ?_
  refine z_dup d_AL_clear_1 rfl ?_
  refine z_get fa_AL_63 d_AL_clear_2 hL rfl ?_
  refine z_iconst d_AL_clear_5 ic_1 ?_
  refine z_iadd d_AL_clear_6 ?_
  refine z_put fp_AL_63 d_AL_clear_7 hL (vp_nar_int _) rfl (zlt rfl) ?_
  refine z_aload_n d_AL_clear_10 rfl ?_
  refine z_get fa_AL_9 d_AL_clear_11 zpu_s rfl ?_
  refine z_astore_n d_AL_clear_14 (zlt rfl) ?_
  refine z_aload_n d_AL_clear_15 rfl ?_
  refine z_get fa_AL_48 d_AL_clear_16 zpu_s rfl ?_
  refine z_istore_n d_AL_clear_19 (zlt rfl) ?_
  refine z_aload_n d_AL_clear_20 rfl ?_
  refine z_iconst d_AL_clear_21 ic_0 ?_
  refine z_dup_x1 d_AL_clear_22 rfl rfl ?_
  refine z_put fp_AL_48 d_AL_clear_23 zpu_s (vp_nar_int _) rfl (zlt rfl) ?_
  refine z_eqh zpu_pu ?_
  refine z_istore_n d_AL_clear_26 (zlt rfl) ?_
  have lp : ∀ (k i : Nat), i + k = n → zG (zcx l E b_AL_clear "java/util/ArrayList" 4 (none) false rm_AL_clear (h) sz (zPv (zpu (zpu h ea (zeO E cap (fun j => if j < n then none else f j))) L (zob 9 [.int (md + nI 1), .ref ea, .int (nI 0)])))) 0 0 27 [some (.ref L), some (.ref ea), some (.int (nI n)), some (.int (nI i))] [] (zpu (zpu h ea (zeO E cap (fun j => if j < i then none else f j))) L (zob 9 [.int (md + nI 1), .ref ea, .int (nI 0)])) := by
    intro k
    induction k with
    | zero =>
      intro i hi
      have hin : i = n := by omega
      subst hin
      refine z_iload_n d_AL_clear_27 rfl ?_
      refine z_iload_n d_AL_clear_28 rfl ?_
      refine z_icmp_ge (tgt := 42) d_AL_clear_29 (by decide) (fun _ => ?_) (fun c => absurd (nI_le (Nat.le_refl _) (by omega)) c)
      exact z_vret rfl d_AL_clear_42 (zlq rfl) (zlq rfl) ⟨rfl, rfl⟩
    | succ k ih =>
      intro i hi
      refine z_iload_n d_AL_clear_27 rfl ?_
      refine z_iload_n d_AL_clear_28 rfl ?_
      refine z_icmp_ge (tgt := 42) d_AL_clear_29 (by decide) (fun c => absurd c (nI_ge (by omega) (by omega))) (fun _ => ?_)
      refine z_aload_n d_AL_clear_32 rfl ?_
      refine z_iload_n d_AL_clear_33 rfl ?_
      refine z_null d_AL_clear_34 ?_
      refine z_aastON i d_AL_clear_35 ((zpu_n (Ne.symm nLe)).trans zpu_s) rfl (by omega) (by omega) ?_
      refine z_iinc (v := nI (i + 1)) d_AL_clear_36 (zlt rfl) rfl (zinc _) ?_
      refine z_goto (tgt := 27) d_AL_clear_39 (by decide) ?_
      refine z_eqh ?_ (ih (i + 1) (by omega))
      rw [zpu_comm nLe, zpu_pu]
      congr 3
      funext j
      unfold va_up
      by_cases c1 : j = i
      · rw [if_pos c1, if_pos (by omega)]
      · rw [if_neg c1]
        dsimp only
        by_cases c2 : j < i
        · rw [if_pos c2, if_pos (by omega)]
        · rw [if_neg c2, if_neg (by omega)]
  refine z_eqh ?_ (lp n 0 (by omega))
  have e0 : (fun j => if j < 0 then none else f j) = f := by funext j; exact if_neg (by omega)
  rw [e0, zpu_id he]
  rfl
set_option maxHeartbeats 4000000 in
set_option maxRecDepth 100000 in
theorem c_AL_clearE (l : Launch) (E : zE) (h : zPH) (L : Nat) (md : Int32) (hL : h L = some (zob 9 [.int md, .ref (zt0 E), .int (nI 0)])) : zM l E y_AL_clear b_AL_clear 4 (none) rm_AL_clear [.ref L] (h) (zPv (zpu h L (zob 9 [.int (md + nI 1), .ref (zt0 E), .int (nI 0)]))) := by
  refine zM_w (by decide +kernel) rfl rfl (fun sz => ?_)
  refine z_aload_n d_AL_clear_0 rfl ?_
  refine z_dup d_AL_clear_1 rfl ?_
  refine z_get fa_AL_63 d_AL_clear_2 hL rfl ?_
  refine z_iconst d_AL_clear_5 ic_1 ?_
  refine z_iadd d_AL_clear_6 ?_
  refine z_put fp_AL_63 d_AL_clear_7 hL (vp_nar_int _) rfl (zlt rfl) ?_
  refine z_aload_n d_AL_clear_10 rfl ?_
  refine z_get fa_AL_9 d_AL_clear_11 zpu_s rfl ?_
  refine z_astore_n d_AL_clear_14 (zlt rfl) ?_
  refine z_aload_n d_AL_clear_15 rfl ?_
  refine z_get fa_AL_48 d_AL_clear_16 zpu_s rfl ?_
  refine z_istore_n d_AL_clear_19 (zlt rfl) ?_
  refine z_aload_n d_AL_clear_20 rfl ?_
  refine z_iconst d_AL_clear_21 ic_0 ?_
  refine z_dup_x1 d_AL_clear_22 rfl rfl ?_
  refine z_put fp_AL_48 d_AL_clear_23 zpu_s (vp_nar_int _) rfl (zlt rfl) ?_
  refine z_eqh zpu_pu ?_
  refine z_istore_n d_AL_clear_26 (zlt rfl) ?_
  refine z_iload_n d_AL_clear_27 rfl ?_
  refine z_iload_n d_AL_clear_28 rfl ?_
  refine z_icmp_ge (tgt := 42) d_AL_clear_29 (by decide) (fun _ => ?_) (fun c => absurd (nI_le (Nat.le_refl _) (by omega)) c)
  exact z_vret rfl d_AL_clear_42 (zlq rfl) (zlq rfl) ⟨rfl, rfl⟩
