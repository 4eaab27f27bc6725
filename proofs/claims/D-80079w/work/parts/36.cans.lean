/-! the component: find and the answers -/
def kX (X : zSt) : zSt := if X 19 0 = 0 then va_up X 19 (fun _ => nI 1) else X
def kS (X : zSt) (K : Nat → Nat → Nat) (f : Nat) (S : zSt) : zSt := if X 19 0 = 0 then cFd (va_up X 19 (fun _ => nI 1)) K f S else S
def kF (X : zSt) (K : Nat → Nat → Nat) (f : Nat) (S : zSt) : Prop := X 19 0 = 0 → cn X 4 ≠ 0 → cSp (va_up X 19 (fun _ => nI 1)) K f (cF0 S)
theorem kX_o {X : zSt} {j : Nat} (h : j ≠ 19) : kX X j = X j := by
  unfold kX
  split
  · exact va_up_ne _ _ h
  · rfl
theorem cn_19 {X : zSt} {v : Int32} {j : Nat} (h : j ≠ 19) : cn (va_up X 19 (fun _ => v)) j = cn X j := by unfold cn; rw [va_up_ne _ _ h]
theorem kI_19 {K : Nat → Nat → Nat} {X Y : zSt} (h4 : Y 4 = X 4) (h7 : Y 7 = X 7) (hK : kI K X) : kI K Y := by
  unfold kI cn at *
  rw [h4, h7]
  exact hK
theorem tInv_v {X : zSt} {v : Int32} (hv : v = 0 ∨ v = 1) (hX : tInv X) : tInv (va_up X 19 (fun _ => v)) := tInv_19 (fun j hj => va_up_ne _ _ (by omega)) (by rw [va_up_self]; exact hv) hX
theorem tInv_kX {X : zSt} (hX : tInv X) : tInv (kX X) := by
  unfold kX
  split
  · exact tInv_v (Or.inr nI_one) hX
  · exact hX
theorem kI_kX {K : Nat → Nat → Nat} {X : zSt} (hK : kI K X) : kI K (kX X) := kI_19 (kX_o (by decide)) (kX_o (by decide)) hK
theorem nI_ofL {c : Int32} {N : Nat} (h0 : 0 ≤ c) (h1 : c ≤ nI N) (hN : N < 2 ^ 31) : ∃ j : Nat, j ≤ N ∧ c = nI j := by
  have a := Int32.le_iff_toInt_le.mp h0
  have b := Int32.le_iff_toInt_le.mp h1
  rw [show (0 : Int32).toInt = 0 by decide +kernel] at a
  rw [show (nI N).toInt = (N : Int) from nI_toInt hN] at b
  refine ⟨c.toInt.toNat, by omega, Int32.toInt_inj.mp ?_⟩
  rw [nI_toInt (by omega)]
  omega
abbrev rm_P_find : Room := { frames := 7, cells := 0, slots := 0, locals := 161 }
set_option maxHeartbeats 4000000 in
set_option maxRecDepth 100000 in
theorem c_P_find (l : Launch) (E : zE) {A : rl → Nat} {K : Nat → Nat → Nat} (hA : cIj K A) (X S R : zSt) (hX : tInv X) (hK : kI K X) (f : Nat) (hF : kF X K f S) : zM l E y_P_find b_P_find 1 (none) rm_P_find [.ref (A (0, 0))] (cp E A K X S R) (zPv (cp E A K (kX X) (kS X K f S) R)) := by
  refine zM_w (by decide +kernel) rfl rfl (fun sz => ?_)
  refine z_aload_n d_P_find_0 rfl ?_
  refine z_get fa_P_55 d_P_find_1 (cp_0 hA) rfl ?_
  refine z_if_eq (tgt := 8) d_P_find_4 (by decide) (fun c4 => ?_) (fun c4 => ?_)
  · refine z_aload_n d_P_find_8 rfl ?_
    refine z_iconst d_P_find_9 ic_1 ?_
    refine z_put fp_P_55 d_P_find_10 (cp_0 hA) (z_nb nz_1) (z_fb nz_1) (zlt rfl) ?_
    refine z_eqh (cp_p0_13 hA) ?_
    refine z_aload_n d_P_find_13 rfl ?_
    refine z_get fa_P_40 d_P_find_14 (cp_0 hA) rfl ?_
    refine z_cVv (c_Se_find l E hA _ _ _ (tInv_v (Or.inr nI_one) hX) (kI_19 (va_up_ne _ _ (by decide)) (va_up_ne _ _ (by decide)) hK) f (fun z => hF c4 (by rw [cn_19 (by decide)] at z; exact z))) cb_Se_find ci_Se_find ln_P_63 (cp_9 hA) rfl rfl (zlq rfl) rfl (zlq rfl) (zlq rfl) d_P_find_17 ?_
    exact z_vret rfl d_P_find_20 (zlq rfl) (zlq rfl) (⟨rfl, by unfold kX kS; rw [if_pos c4, if_pos c4]⟩)
  · exact z_vret rfl d_P_find_7 (zlq rfl) (zlq rfl) (⟨rfl, by unfold kX kS; rw [if_neg c4, if_neg c4]⟩)
def qP2 (X : zSt) (K : Nat → Nat → Nat) (f : Nat) (S : zSt) (m c n : Int32) : Int32 × zSt × zSt := if 0 ≤ c then (kS X K f S 20 (6 * (21 * m.toNatClampNeg + c.toNatClampNeg) + n.toNatClampNeg), kX X, kS X K f S) else (cPt (kS X K f S) m.toNatClampNeg n.toNatClampNeg, kX X, kS X K f S)
def qPts (X : zSt) (K : Nat → Nat → Nat) (f : Nat) (S : zSt) (m c n : Int32) : Int32 × zSt × zSt := if tIn m (X 4 0) = true then (if tIn n (nI 6) = true then (if c < -1 then (-1, X, S) else if X 18 0 = 0 then (if c ≤ nI 0 then qP2 X K f S m c n else (-1, X, S)) else (if c ≤ nI (cn X 16) then qP2 X K f S m c n else (-1, X, S))) else (-1, X, S)) else (-1, X, S)
abbrev rm_P_points : Room := { frames := 8, cells := 0, slots := 0, locals := 181 }
set_option maxHeartbeats 4000000 in
set_option maxRecDepth 100000 in
theorem c_P_points (l : Launch) (E : zE) {A : rl → Nat} {K : Nat → Nat → Nat} (hA : cIj K A) (X S R : zSt) (hX : tInv X) (hK : kI K X) (f : Nat) (hF : kF X K f S) (m c n : Int32) : zM l E y_P_points b_P_points 4 ((some .int)) rm_P_points [.ref (A (0, 0)), .int m, .int c, .int n] (cp E A K X S R) (zPi (qPts X K f S m c n).1 (cp E A K (qPts X K f S m c n).2.1 (qPts X K f S m c n).2.2 R)) := by
  refine zM_w (by decide +kernel) rfl rfl (fun sz => ?_)
  obtain ⟨⟨⟨h0, b0⟩, ⟨h2, b2⟩, ⟨h4, b4⟩, ⟨h7, b7⟩, ⟨h16, b16⟩⟩, h18, h19, hp, hf0, hs, hst⟩ := id hX
  obtain ⟨⟨⟨g0, _⟩, ⟨g2, _⟩, ⟨g4, _⟩, ⟨g7, _⟩, ⟨g16, d16⟩⟩, _, _, _, _, gs, gst⟩ := tInv_kX hX
  refine z_aload_n d_P_points_0 rfl ?_
  refine z_iload_n d_P_points_1 rfl ?_
  refine z_cVi (c_P_isMethod l E hA _ _ _ _) cb_P_isMethod ci_P_isMethod ln_P_94 (cp_0 hA) rfl rfl (zlq rfl) rfl (zlq rfl) (zlq rfl) d_P_points_2 ?_
  refine z_if_eq (tgt := 39) d_P_points_5 (by decide) (fun c5 => ?_) (fun c5 => ?_)
  · have c5n := bI_e.mp c5
    refine z_iconst (v := -1) d_P_points_39 ic_m1 ?_
    exact z_iret rfl d_P_points_40 (zlq rfl) (zlq rfl) (by unfold qPts; rw [if_neg (zbf c5n)]; exact ⟨rfl, rfl⟩)
  · have c5n := bI_n.mp c5
    refine z_iload_n d_P_points_8 rfl ?_
    refine z_cSi (c_P_isName l E _ _) cb_P_isName cs_P_isName ln_P_85 rfl rfl (zlq rfl) rfl (zlq rfl) (zlq rfl) d_P_points_9 ?_
    refine z_if_eq (tgt := 39) d_P_points_12 (by decide) (fun c12 => ?_) (fun c12 => ?_)
    · have c12n := bI_e.mp c12
      refine z_iconst (v := -1) d_P_points_39 ic_m1 ?_
      exact z_iret rfl d_P_points_40 (zlq rfl) (zlq rfl) (by unfold qPts; rw [if_pos c5n, if_neg (zbf c12n)]; exact ⟨rfl, rfl⟩)
    · have c12n := bI_n.mp c12
      refine z_iload_n d_P_points_15 rfl ?_
      refine z_iconst (v := -1) d_P_points_16 ic_m1 ?_
      refine z_icmp_lt (tgt := 39) d_P_points_17 (by decide) (fun c17 => ?_) (fun c17 => ?_)
      · refine z_iconst (v := -1) d_P_points_39 ic_m1 ?_
        exact z_iret rfl d_P_points_40 (zlq rfl) (zlq rfl) (by unfold qPts; rw [if_pos c5n, if_pos c12n, if_pos c17]; exact ⟨rfl, rfl⟩)
      · refine z_iload_n d_P_points_20 rfl ?_
        refine z_aload_n d_P_points_21 rfl ?_
        refine z_get fa_P_117 d_P_points_22 (cp_0 hA) rfl ?_
        refine z_if_ne (tgt := 32) d_P_points_25 (by decide) (fun c25 => ?_) (fun c25 => ?_)
        · refine z_aload_n d_P_points_32 rfl ?_
          refine z_get fa_P_52 d_P_points_33 (cp_0 hA) rfl ?_
          refine z_top h16 ?_
          refine z_icmp_le (tgt := 41) d_P_points_36 (by decide) (fun c36 => ?_) (fun c36 => ?_)
          · obtain ⟨mj, hmj, rfl⟩ := tIn_nat c5n h4 (by omega)
            obtain ⟨nj, hnj, rfl⟩ := tIn_nat c12n rfl (by omega)
            refine z_aload_n d_P_points_41 rfl ?_
            refine z_cVv (c_P_find l E hA _ _ _ hX hK f hF) cb_P_find ci_P_find ln_P_123 (cp_0 hA) rfl rfl (zlq rfl) rfl (zlq rfl) (zlq rfl) d_P_points_42 ?_
            refine z_iload_n d_P_points_45 rfl ?_
            refine z_if_ge (tgt := 61) d_P_points_46 (by decide) (fun c46 => ?_) (fun c46 => ?_)
            · obtain ⟨cj, hcj, rfl⟩ := nI_ofL c46 c36 (by omega)
              refine z_aload_n d_P_points_61 rfl ?_
              refine z_get fa_P_40 d_P_points_62 (cp_0 hA) rfl ?_
              refine z_iload_n d_P_points_65 rfl ?_
              refine z_iload_n d_P_points_66 rfl ?_
              refine z_cVr (c_Se_body l E hA _ _ _ (mj) (cj) (by omega) (by omega)) cb_Se_body ci_Se_body ln_P_128 (cp_9 hA) rfl rfl (zlq rfl) rfl (zlq rfl) (zlq rfl) d_P_points_67 ?_
              refine z_rf ?_
              refine z_iload_n d_P_points_70 rfl ?_
              refine z_cVr (c_name l E hA _ _ _ (21 * (mj) + (cj)) (nj) (by omega) (by omega)) cb_Bo_name ci_Bo_name ln_P_132 (cp_19 hA (j := 21 * (mj) + (cj)) (by omega)) rfl rfl (zlq rfl) rfl (zlq rfl) (zlq rfl) d_P_points_71 ?_
              refine z_rf ?_
              refine z_get fa_P_138 d_P_points_74 (cp_22 hA (j := 6 * (21 * (mj) + (cj)) + nj) (by omega)) rfl ?_
              exact z_iret rfl d_P_points_77 (zlq rfl) (zlq rfl) (by unfold qPts qP2; rw [if_pos c5n, if_pos c12n, if_neg c17, if_neg c25, if_pos c36, if_pos c46]; rw [nI_clamp (show mj < 2 ^ 31 by omega), nI_clamp (show nj < 2 ^ 31 by omega), nI_clamp (show cj < 2 ^ 31 by omega)]; exact ⟨rfl, rfl⟩)
            · refine z_aload_n d_P_points_49 rfl ?_
              refine z_get fa_P_40 d_P_points_50 (cp_0 hA) rfl ?_
              refine z_iload_n d_P_points_53 rfl ?_
              refine z_iload_n d_P_points_54 rfl ?_
              refine z_cVi (c_Se_points l E hA _ _ _ (mj) (nj) (by omega) (by omega)) cb_Se_points ci_Se_points ln_P_124 (cp_9 hA) rfl rfl (zlq rfl) rfl (zlq rfl) (zlq rfl) d_P_points_55 ?_
              refine z_goto (tgt := 77) d_P_points_58 (by decide) ?_
              exact z_iret rfl d_P_points_77 (zlq rfl) (zlq rfl) (by unfold qPts qP2; rw [if_pos c5n, if_pos c12n, if_neg c17, if_neg c25, if_pos c36, if_neg c46]; rw [nI_clamp (show mj < 2 ^ 31 by omega), nI_clamp (show nj < 2 ^ 31 by omega)]; exact ⟨rfl, rfl⟩)
          · refine z_iconst (v := -1) d_P_points_39 ic_m1 ?_
            exact z_iret rfl d_P_points_40 (zlq rfl) (zlq rfl) (by unfold qPts; rw [if_pos c5n, if_pos c12n, if_neg c17, if_neg c25, if_neg c36]; exact ⟨rfl, rfl⟩)
        · refine z_iconst d_P_points_28 ic_0 ?_
          refine z_goto (tgt := 36) d_P_points_29 (by decide) ?_
          refine z_icmp_le (tgt := 41) d_P_points_36 (by decide) (fun c36 => ?_) (fun c36 => ?_)
          · obtain ⟨mj, hmj, rfl⟩ := tIn_nat c5n h4 (by omega)
            obtain ⟨nj, hnj, rfl⟩ := tIn_nat c12n rfl (by omega)
            refine z_aload_n d_P_points_41 rfl ?_
            refine z_cVv (c_P_find l E hA _ _ _ hX hK f hF) cb_P_find ci_P_find ln_P_123 (cp_0 hA) rfl rfl (zlq rfl) rfl (zlq rfl) (zlq rfl) d_P_points_42 ?_
            refine z_iload_n d_P_points_45 rfl ?_
            refine z_if_ge (tgt := 61) d_P_points_46 (by decide) (fun c46 => ?_) (fun c46 => ?_)
            · obtain ⟨cj, hcj, rfl⟩ := nI_ofL c46 c36 (by omega)
              refine z_aload_n d_P_points_61 rfl ?_
              refine z_get fa_P_40 d_P_points_62 (cp_0 hA) rfl ?_
              refine z_iload_n d_P_points_65 rfl ?_
              refine z_iload_n d_P_points_66 rfl ?_
              refine z_cVr (c_Se_body l E hA _ _ _ (mj) (cj) (by omega) (by omega)) cb_Se_body ci_Se_body ln_P_128 (cp_9 hA) rfl rfl (zlq rfl) rfl (zlq rfl) (zlq rfl) d_P_points_67 ?_
              refine z_rf ?_
              refine z_iload_n d_P_points_70 rfl ?_
              refine z_cVr (c_name l E hA _ _ _ (21 * (mj) + (cj)) (nj) (by omega) (by omega)) cb_Bo_name ci_Bo_name ln_P_132 (cp_19 hA (j := 21 * (mj) + (cj)) (by omega)) rfl rfl (zlq rfl) rfl (zlq rfl) (zlq rfl) d_P_points_71 ?_
              refine z_rf ?_
              refine z_get fa_P_138 d_P_points_74 (cp_22 hA (j := 6 * (21 * (mj) + (cj)) + nj) (by omega)) rfl ?_
              exact z_iret rfl d_P_points_77 (zlq rfl) (zlq rfl) (by unfold qPts qP2; rw [if_pos c5n, if_pos c12n, if_neg c17, if_pos c25, if_pos c36, if_pos c46]; rw [nI_clamp (show mj < 2 ^ 31 by omega), nI_clamp (show nj < 2 ^ 31 by omega), nI_clamp (show cj < 2 ^ 31 by omega)]; exact ⟨rfl, rfl⟩)
            · refine z_aload_n d_P_points_49 rfl ?_
              refine z_get fa_P_40 d_P_points_50 (cp_0 hA) rfl ?_
              refine z_iload_n d_P_points_53 rfl ?_
              refine z_iload_n d_P_points_54 rfl ?_
              refine z_cVi (c_Se_points l E hA _ _ _ (mj) (nj) (by omega) (by omega)) cb_Se_points ci_Se_points ln_P_124 (cp_9 hA) rfl rfl (zlq rfl) rfl (zlq rfl) (zlq rfl) d_P_points_55 ?_
              refine z_goto (tgt := 77) d_P_points_58 (by decide) ?_
              exact z_iret rfl d_P_points_77 (zlq rfl) (zlq rfl) (by unfold qPts qP2; rw [if_pos c5n, if_pos c12n, if_neg c17, if_pos c25, if_pos c36, if_neg c46]; rw [nI_clamp (show mj < 2 ^ 31 by omega), nI_clamp (show nj < 2 ^ 31 by omega)]; exact ⟨rfl, rfl⟩)
          · refine z_iconst (v := -1) d_P_points_39 ic_m1 ?_
            exact z_iret rfl d_P_points_40 (zlq rfl) (zlq rfl) (by unfold qPts; rw [if_pos c5n, if_pos c12n, if_neg c17, if_pos c25, if_neg c36]; exact ⟨rfl, rfl⟩)
def qInF (X : zSt) (K : Nat → Nat → Nat) (f : Nat) (S : zSt) (o g : Int32) : Int32 × zSt × zSt := if tIn o (X 16 0) = true then (if tIn g (X 2 0) = true then (kS X K f S 22 (8 * o.toNatClampNeg + g.toNatClampNeg), kX X, kS X K f S) else (-1, X, S)) else (-1, X, S)
abbrev rm_P_inField : Room := { frames := 8, cells := 0, slots := 0, locals := 181 }
set_option maxHeartbeats 4000000 in
set_option maxRecDepth 100000 in
theorem c_P_inField (l : Launch) (E : zE) {A : rl → Nat} {K : Nat → Nat → Nat} (hA : cIj K A) (X S R : zSt) (hX : tInv X) (hK : kI K X) (f : Nat) (hF : kF X K f S) (o g : Int32) : zM l E y_P_inField b_P_inField 3 ((some .int)) rm_P_inField [.ref (A (0, 0)), .int o, .int g] (cp E A K X S R) (zPi (qInF X K f S o g).1 (cp E A K (qInF X K f S o g).2.1 (qInF X K f S o g).2.2 R)) := by
  refine zM_w (by decide +kernel) rfl rfl (fun sz => ?_)
  obtain ⟨⟨⟨h0, b0⟩, ⟨h2, b2⟩, ⟨h4, b4⟩, ⟨h7, b7⟩, ⟨h16, b16⟩⟩, h18, h19, hp, hf0, hs, hst⟩ := id hX
  obtain ⟨⟨⟨g0, _⟩, ⟨g2, _⟩, ⟨g4, _⟩, ⟨g7, _⟩, ⟨g16, d16⟩⟩, _, _, _, _, gs, gst⟩ := tInv_kX hX
  refine z_aload_n d_P_inField_0 rfl ?_
  refine z_iload_n d_P_inField_1 rfl ?_
  refine z_cVi (c_P_isSite l E hA _ _ _ _) cb_P_isSite ci_P_isSite ln_P_143 (cp_0 hA) rfl rfl (zlq rfl) rfl (zlq rfl) (zlq rfl) d_P_inField_2 ?_
  refine z_if_eq (tgt := 16) d_P_inField_5 (by decide) (fun c5 => ?_) (fun c5 => ?_)
  · have c5n := bI_e.mp c5
    refine z_iconst (v := -1) d_P_inField_16 ic_m1 ?_
    exact z_iret rfl d_P_inField_17 (zlq rfl) (zlq rfl) (by unfold qInF; rw [if_neg (zbf c5n)]; exact ⟨rfl, rfl⟩)
  · have c5n := bI_n.mp c5
    refine z_aload_n d_P_inField_8 rfl ?_
    refine z_iload_n d_P_inField_9 rfl ?_
    refine z_cVi (c_P_isField l E hA _ _ _ _) cb_P_isField ci_P_isField ln_P_88 (cp_0 hA) rfl rfl (zlq rfl) rfl (zlq rfl) (zlq rfl) d_P_inField_10 ?_
    refine z_if_ne (tgt := 18) d_P_inField_13 (by decide) (fun c13 => ?_) (fun c13 => ?_)
    · have c13n := bI_n.mp c13
      obtain ⟨oj, hoj, rfl⟩ := tIn_nat c5n h16 (by omega)
      obtain ⟨gj, hgj, rfl⟩ := tIn_nat c13n h2 (by omega)
      refine z_aload_n d_P_inField_18 rfl ?_
      refine z_cVv (c_P_find l E hA _ _ _ hX hK f hF) cb_P_find ci_P_find ln_P_123 (cp_0 hA) rfl rfl (zlq rfl) rfl (zlq rfl) (zlq rfl) d_P_inField_19 ?_
      refine z_aload_n d_P_inField_22 rfl ?_
      refine z_get fa_P_40 d_P_inField_23 (cp_0 hA) rfl ?_
      refine z_iload_n d_P_inField_26 rfl ?_
      refine z_iload_n d_P_inField_27 rfl ?_
      refine z_cVr (c_Se_field l E hA _ _ _ (oj) (gj) (by omega) (by omega)) cb_Se_field ci_Se_field ln_P_146 (cp_9 hA) rfl rfl (zlq rfl) rfl (zlq rfl) (zlq rfl) d_P_inField_28 ?_
      refine z_rf ?_
      refine z_get fa_P_138 d_P_inField_31 (cp_23 hA (j := 8 * (oj) + (gj)) (by omega)) rfl ?_
      exact z_iret rfl d_P_inField_34 (zlq rfl) (zlq rfl) (by unfold qInF; rw [if_pos c5n, if_pos c13n]; (try rw [nI_clamp (show oj < 2 ^ 31 by omega), nI_clamp (show gj < 2 ^ 31 by omega)]); exact ⟨rfl, rfl⟩)
    · have c13n := bI_e.mp c13
      refine z_iconst (v := -1) d_P_inField_16 ic_m1 ?_
      exact z_iret rfl d_P_inField_17 (zlq rfl) (zlq rfl) (by unfold qInF; rw [if_pos c5n, if_neg (zbf c13n)]; exact ⟨rfl, rfl⟩)
def qElm (X : zSt) (K : Nat → Nat → Nat) (f : Nat) (S : zSt) (o : Int32) : Int32 × zSt × zSt := if tIn o (X 16 0) = true then (kS X K f S 24 o.toNatClampNeg, kX X, kS X K f S) else (-1, X, S)
abbrev rm_P_element : Room := { frames := 8, cells := 0, slots := 0, locals := 181 }
set_option maxHeartbeats 4000000 in
set_option maxRecDepth 100000 in
theorem c_P_element (l : Launch) (E : zE) {A : rl → Nat} {K : Nat → Nat → Nat} (hA : cIj K A) (X S R : zSt) (hX : tInv X) (hK : kI K X) (f : Nat) (hF : kF X K f S) (o : Int32) : zM l E y_P_element b_P_element 2 ((some .int)) rm_P_element [.ref (A (0, 0)), .int o] (cp E A K X S R) (zPi (qElm X K f S o).1 (cp E A K (qElm X K f S o).2.1 (qElm X K f S o).2.2 R)) := by
  refine zM_w (by decide +kernel) rfl rfl (fun sz => ?_)
  obtain ⟨⟨⟨h0, b0⟩, ⟨h2, b2⟩, ⟨h4, b4⟩, ⟨h7, b7⟩, ⟨h16, b16⟩⟩, h18, h19, hp, hf0, hs, hst⟩ := id hX
  obtain ⟨⟨⟨g0, _⟩, ⟨g2, _⟩, ⟨g4, _⟩, ⟨g7, _⟩, ⟨g16, d16⟩⟩, _, _, _, _, gs, gst⟩ := tInv_kX hX
  refine z_aload_n d_P_element_0 rfl ?_
  refine z_iload_n d_P_element_1 rfl ?_
  refine z_cVi (c_P_isSite l E hA _ _ _ _) cb_P_isSite ci_P_isSite ln_P_143 (cp_0 hA) rfl rfl (zlq rfl) rfl (zlq rfl) (zlq rfl) d_P_element_2 ?_
  refine z_if_ne (tgt := 10) d_P_element_5 (by decide) (fun c5 => ?_) (fun c5 => ?_)
  · have c5n := bI_n.mp c5
    obtain ⟨oj, hoj, rfl⟩ := tIn_nat c5n h16 (by omega)
    refine z_aload_n d_P_element_10 rfl ?_
    refine z_cVv (c_P_find l E hA _ _ _ hX hK f hF) cb_P_find ci_P_find ln_P_123 (cp_0 hA) rfl rfl (zlq rfl) rfl (zlq rfl) (zlq rfl) d_P_element_11 ?_
    refine z_aload_n d_P_element_14 rfl ?_
    refine z_get fa_P_40 d_P_element_15 (cp_0 hA) rfl ?_
    refine z_get fa_P_150 d_P_element_18 (cp_9 hA) rfl ?_
    refine z_iload_n d_P_element_21 rfl ?_
    refine z_cFr (c_get11_2 l E hA _ _ _ (oj) (by omega)) cb_AL_get cf_get k_420 (cp_11 hA (j := 2) (by omega)) rfl rfl (zlq rfl) rfl (zlq rfl) (zlq rfl) d_P_element_22 ?_
    refine z_rf ?_
    refine z_cast (r := (R_Ce, F_Ce, 3)) rfl k_559 k_1143 (cp_24 hA (j := oj) (by omega)) d_P_element_27 ?_
    refine z_get fa_P_138 d_P_element_30 (cp_24 hA (j := oj) (by omega)) rfl ?_
    exact z_iret rfl d_P_element_33 (zlq rfl) (zlq rfl) (by unfold qElm; rw [if_pos c5n]; (try rw [nI_clamp (show oj < 2 ^ 31 by omega)]); exact ⟨rfl, rfl⟩)
  · have c5n := bI_e.mp c5
    refine z_iconst (v := -1) d_P_element_8 ic_m1 ?_
    exact z_iret rfl d_P_element_9 (zlq rfl) (zlq rfl) (by unfold qElm; rw [if_neg (zbf c5n)]; exact ⟨rfl, rfl⟩)
def qSta (X : zSt) (K : Nat → Nat → Nat) (f : Nat) (S : zSt) (o : Int32) : Int32 × zSt × zSt := if tIn o (nI 4) = true then (kS X K f S 26 o.toNatClampNeg, kX X, kS X K f S) else (-1, X, S)
abbrev rm_P_inStatic : Room := { frames := 8, cells := 0, slots := 0, locals := 181 }
set_option maxHeartbeats 4000000 in
set_option maxRecDepth 100000 in
theorem c_P_inStatic (l : Launch) (E : zE) {A : rl → Nat} {K : Nat → Nat → Nat} (hA : cIj K A) (X S R : zSt) (hX : tInv X) (hK : kI K X) (f : Nat) (hF : kF X K f S) (o : Int32) : zM l E y_P_inStatic b_P_inStatic 2 ((some .int)) rm_P_inStatic [.ref (A (0, 0)), .int o] (cp E A K X S R) (zPi (qSta X K f S o).1 (cp E A K (qSta X K f S o).2.1 (qSta X K f S o).2.2 R)) := by
  refine zM_w (by decide +kernel) rfl rfl (fun sz => ?_)
  obtain ⟨⟨⟨h0, b0⟩, ⟨h2, b2⟩, ⟨h4, b4⟩, ⟨h7, b7⟩, ⟨h16, b16⟩⟩, h18, h19, hp, hf0, hs, hst⟩ := id hX
  obtain ⟨⟨⟨g0, _⟩, ⟨g2, _⟩, ⟨g4, _⟩, ⟨g7, _⟩, ⟨g16, d16⟩⟩, _, _, _, _, gs, gst⟩ := tInv_kX hX
  refine z_iload_n d_P_inStatic_0 rfl ?_
  refine z_cSi (c_P_isStatic l E _ _) cb_P_isStatic cs_P_isStatic ln_P_91 rfl rfl (zlq rfl) rfl (zlq rfl) (zlq rfl) d_P_inStatic_1 ?_
  refine z_if_ne (tgt := 9) d_P_inStatic_4 (by decide) (fun c4 => ?_) (fun c4 => ?_)
  · have c4n := bI_n.mp c4
    obtain ⟨oj, hoj, rfl⟩ := tIn_nat c4n rfl (by omega)
    refine z_aload_n d_P_inStatic_9 rfl ?_
    refine z_cVv (c_P_find l E hA _ _ _ hX hK f hF) cb_P_find ci_P_find ln_P_123 (cp_0 hA) rfl rfl (zlq rfl) rfl (zlq rfl) (zlq rfl) d_P_inStatic_10 ?_
    refine z_aload_n d_P_inStatic_13 rfl ?_
    refine z_get fa_P_40 d_P_inStatic_14 (cp_0 hA) rfl ?_
    refine z_get fa_P_153 d_P_inStatic_17 (cp_9 hA) rfl ?_
    refine z_iload_n d_P_inStatic_20 rfl ?_
    refine z_cFr (c_get11_3 l E hA _ _ _ (oj) (by omega)) cb_AL_get cf_get k_420 (cp_11 hA (j := 3) (by omega)) rfl rfl (zlq rfl) rfl (zlq rfl) (zlq rfl) d_P_inStatic_21 ?_
    refine z_rf ?_
    refine z_cast (r := (R_Ce, F_Ce, 3)) rfl k_559 k_1143 (cp_25 hA (j := oj) (by omega)) d_P_inStatic_26 ?_
    refine z_get fa_P_138 d_P_inStatic_29 (cp_25 hA (j := oj) (by omega)) rfl ?_
    exact z_iret rfl d_P_inStatic_32 (zlq rfl) (zlq rfl) (by unfold qSta; rw [if_pos c4n]; (try rw [nI_clamp (show oj < 2 ^ 31 by omega)]); exact ⟨rfl, rfl⟩)
  · have c4n := bI_e.mp c4
    refine z_iconst (v := -1) d_P_inStatic_7 ic_m1 ?_
    exact z_iret rfl d_P_inStatic_8 (zlq rfl) (zlq rfl) (by unfold qSta; rw [if_neg (zbf c4n)]; exact ⟨rfl, rfl⟩)
def qRds (X : zSt) (K : Nat → Nat → Nat) (f : Nat) (S : zSt) : Int32 × zSt × zSt := (kS X K f S 31 0, kX X, kS X K f S)
abbrev rm_P_rounds : Room := { frames := 8, cells := 0, slots := 0, locals := 181 }
set_option maxHeartbeats 4000000 in
set_option maxRecDepth 100000 in
theorem c_P_rounds (l : Launch) (E : zE) {A : rl → Nat} {K : Nat → Nat → Nat} (hA : cIj K A) (X S R : zSt) (hX : tInv X) (hK : kI K X) (f : Nat) (hF : kF X K f S) : zM l E y_P_rounds b_P_rounds 1 ((some .int)) rm_P_rounds [.ref (A (0, 0))] (cp E A K X S R) (zPi (qRds X K f S).1 (cp E A K (qRds X K f S).2.1 (qRds X K f S).2.2 R)) := by
  refine zM_w (by decide +kernel) rfl rfl (fun sz => ?_)
  obtain ⟨⟨⟨h0, b0⟩, ⟨h2, b2⟩, ⟨h4, b4⟩, ⟨h7, b7⟩, ⟨h16, b16⟩⟩, h18, h19, hp, hf0, hs, hst⟩ := id hX
  obtain ⟨⟨⟨g0, _⟩, ⟨g2, _⟩, ⟨g4, _⟩, ⟨g7, _⟩, ⟨g16, d16⟩⟩, _, _, _, _, gs, gst⟩ := tInv_kX hX
  refine z_aload_n d_P_rounds_0 rfl ?_
  refine z_cVv (c_P_find l E hA _ _ _ hX hK f hF) cb_P_find ci_P_find ln_P_123 (cp_0 hA) rfl rfl (zlq rfl) rfl (zlq rfl) (zlq rfl) d_P_rounds_1 ?_
  refine z_aload_n d_P_rounds_4 rfl ?_
  refine z_get fa_P_40 d_P_rounds_5 (cp_0 hA) rfl ?_
  refine z_get fa_P_177 d_P_rounds_8 (cp_9 hA) rfl ?_
  exact z_iret rfl d_P_rounds_11 (zlq rfl) (zlq rfl) (by unfold qRds; exact ⟨rfl, rfl⟩)
def qRc (X : zSt) (K : Nat → Nat → Nat) (f : Nat) (S : zSt) (m c : Nat) (z : Int32) : Int32 := if bz (kS X K f S 70 (21 * m + c)) = true then z + nI 1 else z + nI 0
def qRch (X : zSt) (K : Nat → Nat → Nat) (f : Nat) (S : zSt) (m : Int32) : Int32 × zSt × zSt := if tIn m (X 4 0) = true then (zit (fun c z => qRc X K f S m.toNatClampNeg c z) 21 (nI 0), kX X, kS X K f S) else (-1, X, S)
abbrev rm_P_reached : Room := { frames := 8, cells := 0, slots := 0, locals := 181 }
set_option maxHeartbeats 4000000 in
set_option maxRecDepth 100000 in
theorem c_P_reached (l : Launch) (E : zE) {A : rl → Nat} {K : Nat → Nat → Nat} (hA : cIj K A) (X S R : zSt) (hX : tInv X) (hK : kI K X) (f : Nat) (hF : kF X K f S) (m : Int32) : zM l E y_P_reached b_P_reached 4 ((some .int)) rm_P_reached [.ref (A (0, 0)), .int m] (cp E A K X S R) (zPi (qRch X K f S m).1 (cp E A K (qRch X K f S m).2.1 (qRch X K f S m).2.2 R)) := by
  refine zM_w (by decide +kernel) rfl rfl (fun sz => ?_)
  obtain ⟨⟨⟨h0, b0⟩, ⟨h2, b2⟩, ⟨h4, b4⟩, ⟨h7, b7⟩, ⟨h16, b16⟩⟩, h18, h19, hp, hf0, hs, hst⟩ := id hX
  obtain ⟨⟨⟨g0, _⟩, ⟨g2, _⟩, ⟨g4, _⟩, ⟨g7, _⟩, ⟨g16, d16⟩⟩, _, _, _, _, gs, gst⟩ := tInv_kX hX
  refine z_aload_n d_P_reached_0 rfl ?_
  refine z_iload_n d_P_reached_1 rfl ?_
  refine z_cVi (c_P_isMethod l E hA _ _ _ _) cb_P_isMethod ci_P_isMethod ln_P_94 (cp_0 hA) rfl rfl (zlq rfl) rfl (zlq rfl) (zlq rfl) d_P_reached_2 ?_
  refine z_if_ne (tgt := 10) d_P_reached_5 (by decide) (fun c5 => ?_) (fun c5 => ?_)
  · have c5n := bI_n.mp c5
    obtain ⟨mj, hmj, rfl⟩ := tIn_nat c5n h4 (by omega)
    refine z_aload_n d_P_reached_10 rfl ?_
    refine z_cVv (c_P_find l E hA _ _ _ hX hK f hF) cb_P_find ci_P_find ln_P_123 (cp_0 hA) rfl rfl (zlq rfl) rfl (zlq rfl) (zlq rfl) d_P_reached_11 ?_
    refine z_iconst d_P_reached_14 ic_0 ?_
    refine z_istore_n d_P_reached_15 (zlt rfl) ?_
    refine z_iconst d_P_reached_16 ic_0 ?_
    refine z_istore_n d_P_reached_17 (zlt rfl) ?_
    refine zlp (Gh := fun (kz : Nat) (Z : Int32) => zG (zcx l E b_P_reached "PointsToRounds" 4 ((some .int)) false rm_P_reached (cp E A K X S R) sz (zPi (qRch X K f S (nI mj)).1 (cp E A K (qRch X K f S (nI mj)).2.1 (qRch X K f S (nI mj)).2.2 R))) 0 0 18 [some (.ref (A (0, 0))), some (.int (nI (mj))), some (.int (Z)), some (.int (nI (kz)))] [] (cp E A K (kX X) (kS X K f S) R)) (f := fun c z => qRc X K f S mj c z) (N := 21) (x0 := (nI 0)) ?_ ?_
    rotate_left
    · intro c hc ihc
      generalize zit _ c _ = Zc at ihc ⊢
      show zG (zcx l E b_P_reached "PointsToRounds" 4 ((some .int)) false rm_P_reached (cp E A K X S R) sz (zPi (qRch X K f S (nI mj)).1 (cp E A K (qRch X K f S (nI mj)).2.1 (qRch X K f S (nI mj)).2.2 R))) 0 0 18 [some (.ref (A (0, 0))), some (.int (nI (mj))), some (.int (Zc)), some (.int (nI (c)))] [] (cp E A K (kX X) (kS X K f S) R)
      try dsimp only at ihc
      refine z_iload_n d_P_reached_18 rfl ?_
      refine z_bipush d_P_reached_19 bp_21 ?_
      refine z_icmp_ge (tgt := 53) d_P_reached_21 (by decide) (fun c21 => absurd c21 (nI_ge hc (by omega))) (fun c21 => ?_)
      have c21n := (not_congr (nI_leI (by omega) (by omega))).mp c21
      refine z_iload_n d_P_reached_24 rfl ?_
      refine z_aload_n d_P_reached_25 rfl ?_
      refine z_get fa_P_40 d_P_reached_26 (cp_0 hA) rfl ?_
      refine z_iload_n d_P_reached_29 rfl ?_
      refine z_iload_n d_P_reached_30 rfl ?_
      refine z_cVr (c_Se_body l E hA _ _ _ (mj) (c) (by omega) (by omega)) cb_Se_body ci_Se_body ln_P_128 (cp_9 hA) rfl rfl (zlq rfl) rfl (zlq rfl) (zlq rfl) d_P_reached_31 ?_
      refine z_rf ?_
      refine z_get fa_P_156 d_P_reached_34 (cp_19 hA (j := 21 * (mj) + (c)) (by omega)) rfl ?_
      refine z_if_eq (tgt := 44) d_P_reached_37 (by decide) (fun c37 => ?_) (fun c37 => ?_)
      · have c37n := bI_e.mp c37
        refine z_iconst d_P_reached_44 ic_0 ?_
        refine z_iadd d_P_reached_45 ?_
        refine z_istore_n d_P_reached_46 (zlt rfl) ?_
        refine z_iinc (v := nI (c + 1)) d_P_reached_47 (zlt rfl) rfl (zinc _) ?_
        refine z_goto (tgt := 18) d_P_reached_50 (by decide) ?_
        unfold qRc at ihc
        rw [if_neg (zbf c37n)] at ihc
        exact ihc
      · have c37n := bI_n.mp c37
        refine z_iconst d_P_reached_40 ic_1 ?_
        refine z_goto (tgt := 45) d_P_reached_41 (by decide) ?_
        refine z_iadd d_P_reached_45 ?_
        refine z_istore_n d_P_reached_46 (zlt rfl) ?_
        refine z_iinc (v := nI (c + 1)) d_P_reached_47 (zlt rfl) rfl (zinc _) ?_
        refine z_goto (tgt := 18) d_P_reached_50 (by decide) ?_
        unfold qRc at ihc
        rw [if_pos c37n] at ihc
        exact ihc
    show zG (zcx l E b_P_reached "PointsToRounds" 4 ((some .int)) false rm_P_reached (cp E A K X S R) sz (zPi (qRch X K f S (nI mj)).1 (cp E A K (qRch X K f S (nI mj)).2.1 (qRch X K f S (nI mj)).2.2 R))) 0 0 18 [some (.ref (A (0, 0))), some (.int (nI (mj))), some (.int ((zit (fun c z => qRc X K f S mj c z) (21) (nI 0)))), some (.int (nI 21))] [] (cp E A K (kX X) (kS X K f S) R)
    refine z_iload_n d_P_reached_18 rfl ?_
    refine z_bipush d_P_reached_19 bp_21 ?_
    refine z_icmp_ge (tgt := 53) d_P_reached_21 (by decide) (fun c21 => ?_) (fun c21 => absurd (by decide +kernel) c21)
    refine z_iload_n d_P_reached_53 rfl ?_
    exact z_iret rfl d_P_reached_54 (zlq rfl) (zlq rfl) (by unfold qRch; rw [if_pos c5n]; (try rw [nI_clamp (show mj < 2 ^ 31 by omega)]); exact ⟨rfl, rfl⟩)
  · have c5n := bI_e.mp c5
    refine z_iconst (v := -1) d_P_reached_8 ic_m1 ?_
    exact z_iret rfl d_P_reached_9 (zlq rfl) (zlq rfl) (by unfold qRch; rw [if_neg (zbf c5n)]; exact ⟨rfl, rfl⟩)
def qAli (X : zSt) (K : Nat → Nat → Nat) (f : Nat) (S : zSt) (m n m2 n2 : Int32) : Int32 × zSt × zSt := if tIn m (X 4 0) = true then (if tIn n (nI 6) = true then (if tIn m2 (X 4 0) = true then (if tIn n2 (nI 6) = true then (if cPt (kS X K f S) m.toNatClampNeg n.toNatClampNeg &&& cPt (kS X K f S) m2.toNatClampNeg n2.toNatClampNeg = 0 then (nI 0, kX X, kS X K f S) else (nI 1, kX X, kS X K f S)) else (-1, X, S)) else (-1, X, S)) else (-1, X, S)) else (-1, X, S)
abbrev rm_P_alias : Room := { frames := 8, cells := 0, slots := 0, locals := 181 }
set_option maxHeartbeats 4000000 in
set_option maxRecDepth 100000 in
theorem c_P_alias (l : Launch) (E : zE) {A : rl → Nat} {K : Nat → Nat → Nat} (hA : cIj K A) (X S R : zSt) (hX : tInv X) (hK : kI K X) (f : Nat) (hF : kF X K f S) (m n m2 n2 : Int32) : zM l E y_P_alias b_P_alias 5 ((some .int)) rm_P_alias [.ref (A (0, 0)), .int m, .int n, .int m2, .int n2] (cp E A K X S R) (zPi (qAli X K f S m n m2 n2).1 (cp E A K (qAli X K f S m n m2 n2).2.1 (qAli X K f S m n m2 n2).2.2 R)) := by
  refine zM_w (by decide +kernel) rfl rfl (fun sz => ?_)
  obtain ⟨⟨⟨h0, b0⟩, ⟨h2, b2⟩, ⟨h4, b4⟩, ⟨h7, b7⟩, ⟨h16, b16⟩⟩, h18, h19, hp, hf0, hs, hst⟩ := id hX
  obtain ⟨⟨⟨g0, _⟩, ⟨g2, _⟩, ⟨g4, _⟩, ⟨g7, _⟩, ⟨g16, d16⟩⟩, _, _, _, _, gs, gst⟩ := tInv_kX hX
  refine z_aload_n d_P_alias_0 rfl ?_
  refine z_iload_n d_P_alias_1 rfl ?_
  refine z_cVi (c_P_isMethod l E hA _ _ _ _) cb_P_isMethod ci_P_isMethod ln_P_94 (cp_0 hA) rfl rfl (zlq rfl) rfl (zlq rfl) (zlq rfl) d_P_alias_2 ?_
  refine z_if_eq (tgt := 31) d_P_alias_5 (by decide) (fun c5 => ?_) (fun c5 => ?_)
  · have c5n := bI_e.mp c5
    refine z_iconst (v := -1) d_P_alias_31 ic_m1 ?_
    exact z_iret rfl d_P_alias_32 (zlq rfl) (zlq rfl) (by unfold qAli; rw [if_neg (zbf c5n)]; exact ⟨rfl, rfl⟩)
  · have c5n := bI_n.mp c5
    refine z_iload_n d_P_alias_8 rfl ?_
    refine z_cSi (c_P_isName l E _ _) cb_P_isName cs_P_isName ln_P_85 rfl rfl (zlq rfl) rfl (zlq rfl) (zlq rfl) d_P_alias_9 ?_
    refine z_if_eq (tgt := 31) d_P_alias_12 (by decide) (fun c12 => ?_) (fun c12 => ?_)
    · have c12n := bI_e.mp c12
      refine z_iconst (v := -1) d_P_alias_31 ic_m1 ?_
      exact z_iret rfl d_P_alias_32 (zlq rfl) (zlq rfl) (by unfold qAli; rw [if_pos c5n, if_neg (zbf c12n)]; exact ⟨rfl, rfl⟩)
    · have c12n := bI_n.mp c12
      refine z_aload_n d_P_alias_15 rfl ?_
      refine z_iload_n d_P_alias_16 rfl ?_
      refine z_cVi (c_P_isMethod l E hA _ _ _ _) cb_P_isMethod ci_P_isMethod ln_P_94 (cp_0 hA) rfl rfl (zlq rfl) rfl (zlq rfl) (zlq rfl) d_P_alias_17 ?_
      refine z_if_eq (tgt := 31) d_P_alias_20 (by decide) (fun c20 => ?_) (fun c20 => ?_)
      · have c20n := bI_e.mp c20
        refine z_iconst (v := -1) d_P_alias_31 ic_m1 ?_
        exact z_iret rfl d_P_alias_32 (zlq rfl) (zlq rfl) (by unfold qAli; rw [if_pos c5n, if_pos c12n, if_neg (zbf c20n)]; exact ⟨rfl, rfl⟩)
      · have c20n := bI_n.mp c20
        refine z_iload d_P_alias_23 rfl ?_
        refine z_cSi (c_P_isName l E _ _) cb_P_isName cs_P_isName ln_P_85 rfl rfl (zlq rfl) rfl (zlq rfl) (zlq rfl) d_P_alias_25 ?_
        refine z_if_ne (tgt := 33) d_P_alias_28 (by decide) (fun c28 => ?_) (fun c28 => ?_)
        · have c28n := bI_n.mp c28
          obtain ⟨mj, hmj, rfl⟩ := tIn_nat c5n h4 (by omega)
          obtain ⟨nj, hnj, rfl⟩ := tIn_nat c12n rfl (by omega)
          obtain ⟨m2j, hm2j, rfl⟩ := tIn_nat c20n h4 (by omega)
          obtain ⟨n2j, hn2j, rfl⟩ := tIn_nat c28n rfl (by omega)
          refine z_aload_n d_P_alias_33 rfl ?_
          refine z_cVv (c_P_find l E hA _ _ _ hX hK f hF) cb_P_find ci_P_find ln_P_123 (cp_0 hA) rfl rfl (zlq rfl) rfl (zlq rfl) (zlq rfl) d_P_alias_34 ?_
          refine z_aload_n d_P_alias_37 rfl ?_
          refine z_get fa_P_40 d_P_alias_38 (cp_0 hA) rfl ?_
          refine z_iload_n d_P_alias_41 rfl ?_
          refine z_iload_n d_P_alias_42 rfl ?_
          refine z_cVi (c_Se_points l E hA _ _ _ (mj) (nj) (by omega) (by omega)) cb_Se_points ci_Se_points ln_P_124 (cp_9 hA) rfl rfl (zlq rfl) rfl (zlq rfl) (zlq rfl) d_P_alias_43 ?_
          refine z_aload_n d_P_alias_46 rfl ?_
          refine z_get fa_P_40 d_P_alias_47 (cp_0 hA) rfl ?_
          refine z_iload_n d_P_alias_50 rfl ?_
          refine z_iload d_P_alias_51 rfl ?_
          refine z_cVi (c_Se_points l E hA _ _ _ (m2j) (n2j) (by omega) (by omega)) cb_Se_points ci_Se_points ln_P_124 (cp_9 hA) rfl rfl (zlq rfl) rfl (zlq rfl) (zlq rfl) d_P_alias_53 ?_
          refine z_iand d_P_alias_56 ?_
          refine z_if_eq (tgt := 64) d_P_alias_57 (by decide) (fun c57 => ?_) (fun c57 => ?_)
          · refine z_iconst d_P_alias_64 ic_0 ?_
            exact z_iret rfl d_P_alias_65 (zlq rfl) (zlq rfl) (by unfold qAli; rw [if_pos c5n, if_pos c12n, if_pos c20n, if_pos c28n]; rw [nI_clamp (show mj < 2 ^ 31 by omega), nI_clamp (show nj < 2 ^ 31 by omega), nI_clamp (show m2j < 2 ^ 31 by omega), nI_clamp (show n2j < 2 ^ 31 by omega)]; rw [if_pos c57]; exact ⟨rfl, rfl⟩)
          · refine z_iconst d_P_alias_60 ic_1 ?_
            refine z_goto (tgt := 65) d_P_alias_61 (by decide) ?_
            exact z_iret rfl d_P_alias_65 (zlq rfl) (zlq rfl) (by unfold qAli; rw [if_pos c5n, if_pos c12n, if_pos c20n, if_pos c28n]; rw [nI_clamp (show mj < 2 ^ 31 by omega), nI_clamp (show nj < 2 ^ 31 by omega), nI_clamp (show m2j < 2 ^ 31 by omega), nI_clamp (show n2j < 2 ^ 31 by omega)]; rw [if_neg c57]; exact ⟨rfl, rfl⟩)
        · have c28n := bI_e.mp c28
          refine z_iconst (v := -1) d_P_alias_31 ic_m1 ?_
          exact z_iret rfl d_P_alias_32 (zlq rfl) (zlq rfl) (by unfold qAli; rw [if_pos c5n, if_pos c12n, if_pos c20n, if_neg (zbf c28n)]; exact ⟨rfl, rfl⟩)
def qWhn (X : zSt) (K : Nat → Nat → Nat) (f : Nat) (S : zSt) (m n o : Int32) : Int32 × zSt × zSt := if tIn m (X 4 0) = true then (if tIn n (nI 6) = true then (if tIn o (X 16 0) = true then (if 0 ≤ kS X K f S 30 (20 * (6 * m.toNatClampNeg + n.toNatClampNeg) + o.toNatClampNeg) then (kS X K f S 30 (20 * (6 * m.toNatClampNeg + n.toNatClampNeg) + o.toNatClampNeg), kX X, kS X K f S) else (-3, kX X, kS X K f S)) else (-1, X, S)) else (-1, X, S)) else (-1, X, S)
abbrev rm_P_when : Room := { frames := 8, cells := 0, slots := 0, locals := 181 }
set_option maxHeartbeats 4000000 in
set_option maxRecDepth 100000 in
theorem c_P_when (l : Launch) (E : zE) {A : rl → Nat} {K : Nat → Nat → Nat} (hA : cIj K A) (X S R : zSt) (hX : tInv X) (hK : kI K X) (f : Nat) (hF : kF X K f S) (m n o : Int32) : zM l E y_P_when b_P_when 5 ((some .int)) rm_P_when [.ref (A (0, 0)), .int m, .int n, .int o] (cp E A K X S R) (zPi (qWhn X K f S m n o).1 (cp E A K (qWhn X K f S m n o).2.1 (qWhn X K f S m n o).2.2 R)) := by
  refine zM_w (by decide +kernel) rfl rfl (fun sz => ?_)
  obtain ⟨⟨⟨h0, b0⟩, ⟨h2, b2⟩, ⟨h4, b4⟩, ⟨h7, b7⟩, ⟨h16, b16⟩⟩, h18, h19, hp, hf0, hs, hst⟩ := id hX
  obtain ⟨⟨⟨g0, _⟩, ⟨g2, _⟩, ⟨g4, _⟩, ⟨g7, _⟩, ⟨g16, d16⟩⟩, _, _, _, _, gs, gst⟩ := tInv_kX hX
  refine z_aload_n d_P_when_0 rfl ?_
  refine z_iload_n d_P_when_1 rfl ?_
  refine z_cVi (c_P_isMethod l E hA _ _ _ _) cb_P_isMethod ci_P_isMethod ln_P_94 (cp_0 hA) rfl rfl (zlq rfl) rfl (zlq rfl) (zlq rfl) d_P_when_2 ?_
  refine z_if_eq (tgt := 23) d_P_when_5 (by decide) (fun c5 => ?_) (fun c5 => ?_)
  · have c5n := bI_e.mp c5
    refine z_iconst (v := -1) d_P_when_23 ic_m1 ?_
    exact z_iret rfl d_P_when_24 (zlq rfl) (zlq rfl) (by unfold qWhn; rw [if_neg (zbf c5n)]; exact ⟨rfl, rfl⟩)
  · have c5n := bI_n.mp c5
    refine z_iload_n d_P_when_8 rfl ?_
    refine z_cSi (c_P_isName l E _ _) cb_P_isName cs_P_isName ln_P_85 rfl rfl (zlq rfl) rfl (zlq rfl) (zlq rfl) d_P_when_9 ?_
    refine z_if_eq (tgt := 23) d_P_when_12 (by decide) (fun c12 => ?_) (fun c12 => ?_)
    · have c12n := bI_e.mp c12
      refine z_iconst (v := -1) d_P_when_23 ic_m1 ?_
      exact z_iret rfl d_P_when_24 (zlq rfl) (zlq rfl) (by unfold qWhn; rw [if_pos c5n, if_neg (zbf c12n)]; exact ⟨rfl, rfl⟩)
    · have c12n := bI_n.mp c12
      refine z_aload_n d_P_when_15 rfl ?_
      refine z_iload_n d_P_when_16 rfl ?_
      refine z_cVi (c_P_isSite l E hA _ _ _ _) cb_P_isSite ci_P_isSite ln_P_143 (cp_0 hA) rfl rfl (zlq rfl) rfl (zlq rfl) (zlq rfl) d_P_when_17 ?_
      refine z_if_ne (tgt := 25) d_P_when_20 (by decide) (fun c20 => ?_) (fun c20 => ?_)
      · have c20n := bI_n.mp c20
        obtain ⟨mj, hmj, rfl⟩ := tIn_nat c5n h4 (by omega)
        obtain ⟨nj, hnj, rfl⟩ := tIn_nat c12n rfl (by omega)
        obtain ⟨oj, hoj, rfl⟩ := tIn_nat c20n h16 (by omega)
        refine z_aload_n d_P_when_25 rfl ?_
        refine z_cVv (c_P_find l E hA _ _ _ hX hK f hF) cb_P_find ci_P_find ln_P_123 (cp_0 hA) rfl rfl (zlq rfl) rfl (zlq rfl) (zlq rfl) d_P_when_26 ?_
        refine z_aload_n d_P_when_29 rfl ?_
        refine z_get fa_P_40 d_P_when_30 (cp_0 hA) rfl ?_
        refine z_get fa_P_180 d_P_when_33 (cp_9 hA) rfl ?_
        refine z_bipush d_P_when_36 bp_20 ?_
        refine z_bipush d_P_when_38 bp_6 ?_
        refine z_iload_n d_P_when_40 rfl ?_
        refine z_imul d_P_when_41 ?_
        refine z_top (pk_mul (6) (mj)) ?_
        refine z_iload_n d_P_when_42 rfl ?_
        refine z_iadd d_P_when_43 ?_
        refine z_top (nI_add (6 * mj) (nj)) ?_
        refine z_imul d_P_when_44 ?_
        refine z_top (pk_mul (20) (6 * mj + nj)) ?_
        refine z_iload_n d_P_when_45 rfl ?_
        refine z_iadd d_P_when_46 ?_
        refine z_top (nI_add (20 * (6 * mj + nj)) (oj)) ?_
        refine z_iald (20 * (6 * mj + nj) + oj) d_P_when_47 (cp_10 hA) rfl (show 20 * (6 * mj + nj) + oj < 1200 from by omega) (by decide) ?_
        refine z_istore d_P_when_48 (zlt rfl) ?_
        refine z_iload d_P_when_50 rfl ?_
        refine z_if_ge (tgt := 60) d_P_when_52 (by decide) (fun c52 => ?_) (fun c52 => ?_)
        · refine z_iload d_P_when_60 rfl ?_
          exact z_iret rfl d_P_when_62 (zlq rfl) (zlq rfl) (by unfold qWhn; rw [if_pos c5n, if_pos c12n, if_pos c20n]; rw [nI_clamp (show mj < 2 ^ 31 by omega), nI_clamp (show nj < 2 ^ 31 by omega), nI_clamp (show oj < 2 ^ 31 by omega)]; rw [if_pos c52]; exact ⟨rfl, rfl⟩)
        · refine z_bipush (v := -3) d_P_when_55 bp_m3 ?_
          refine z_goto (tgt := 62) d_P_when_57 (by decide) ?_
          exact z_iret rfl d_P_when_62 (zlq rfl) (zlq rfl) (by unfold qWhn; rw [if_pos c5n, if_pos c12n, if_pos c20n]; rw [nI_clamp (show mj < 2 ^ 31 by omega), nI_clamp (show nj < 2 ^ 31 by omega), nI_clamp (show oj < 2 ^ 31 by omega)]; rw [if_neg c52]; exact ⟨rfl, rfl⟩)
      · have c20n := bI_e.mp c20
        refine z_iconst (v := -1) d_P_when_23 ic_m1 ?_
        exact z_iret rfl d_P_when_24 (zlq rfl) (zlq rfl) (by unfold qWhn; rw [if_pos c5n, if_pos c12n, if_neg (zbf c20n)]; exact ⟨rfl, rfl⟩)
def qM1 (S : zSt) (m q c : Nat) (z : Int32) : Int32 := if bz (S 70 (21 * m + c)) = true then z ||| S 20 (6 * (21 * m + c) + q) else z ||| nI 0
def qMs (S : zSt) (m q : Nat) : Int32 := zit (fun c z => qM1 S m q c z) 21 (nI 0)
def qM2 (X : zSt) (set g : Int32) (o : Nat) (z : Int32) : Int32 := if tb set o = true then (if 0 ≤ fdf X g 9 (X 17 o) then z ||| (nI 1 <<< (fdf X g 9 (X 17 o) &&& 31)) else z ||| nI 0) else z ||| nI 0
def qM3 (X S : zSt) (i : Nat) : Int32 := if nI (ne X 9 i) = nI 4 then qMs S (ne X 8 i) (ne X 11 i) &&& (cUnd X (qMs S (ne X 8 i) (ne X 11 i)) (X 12 i) ^^^ -1) else zit (fun o z => qM2 X (qMs S (ne X 8 i) (ne X 11 i)) (X 12 i) o z) (cn X 16) (nI 0)
def qMay (X : zSt) (K : Nat → Nat → Nat) (f : Nat) (S : zSt) (i : Int32) : Int32 × zSt × zSt := if i < 0 then (-1, X, S) else if i < nI (K 101 0) then (if nI (ne X 9 i.toNatClampNeg) = nI 4 then (qM3 (kX X) (kS X K f S) i.toNatClampNeg, kX X, kS X K f S) else if nI (ne X 9 i.toNatClampNeg) = nI 7 then (qM3 (kX X) (kS X K f S) i.toNatClampNeg, kX X, kS X K f S) else (-3, X, S)) else (-1, X, S)
theorem zrng {i : Int32} {N : Nat} (h0 : ¬ i < 0) (h1 : i < nI N) (hN : N < 2 ^ 31) : ∃ j : Nat, j < N ∧ i = nI j := by
  have a : (0 : Int32) ≤ i := Int32.not_lt.mp h0
  obtain ⟨j, hj, e⟩ := nI_ofL a (Int32.le_of_lt h1) hN
  subst e
  have := (nI_ltI (by omega) hN).mp h1
  exact ⟨j, this, rfl⟩
abbrev rm_P_may : Room := { frames := 8, cells := 0, slots := 0, locals := 181 }
set_option maxHeartbeats 4000000 in
set_option maxRecDepth 100000 in
theorem c_P_may (l : Launch) (E : zE) {A : rl → Nat} {K : Nat → Nat → Nat} (hA : cIj K A) (X S R : zSt) (hX : tInv X) (hK : kI K X) (f : Nat) (hF : kF X K f S) (i : Int32) : zM l E y_P_may b_P_may 7 ((some .int)) rm_P_may [.ref (A (0, 0)), .int i] (cp E A K X S R) (zPi (qMay X K f S i).1 (cp E A K (qMay X K f S i).2.1 (qMay X K f S i).2.2 R)) := by
  refine zM_w (by decide +kernel) rfl rfl (fun sz => ?_)
  obtain ⟨⟨⟨h0, b0⟩, ⟨h2, b2⟩, ⟨h4, b4⟩, ⟨h7, b7⟩, ⟨h16, b16⟩⟩, h18, h19, hp, hf0, hs, hst⟩ := id hX
  obtain ⟨⟨⟨g0, _⟩, ⟨g2, _⟩, ⟨g4, _⟩, ⟨g7, _⟩, ⟨g16, d16⟩⟩, _, _, _, _, gs, gst⟩ := tInv_kX hX
  obtain ⟨⟨k100, k101, k105, k106⟩, -, -, -, hkk⟩ := id hK
  refine z_iload_n d_P_may_0 rfl ?_
  refine z_if_lt (tgt := 17) d_P_may_1 (by decide) (fun c1 => ?_) (fun c1 => ?_)
  · refine z_iconst (v := -1) d_P_may_17 ic_m1 ?_
    exact z_iret rfl d_P_may_18 (zlq rfl) (zlq rfl) (by unfold qMay; rw [if_pos c1]; exact ⟨rfl, rfl⟩)
  · refine z_iload_n d_P_may_4 rfl ?_
    refine z_aload_n d_P_may_5 rfl ?_
    refine z_get fa_P_25 d_P_may_6 (cp_0 hA) rfl ?_
    refine z_cFi (c_sizeS l E hA _ _ _) cb_AL_size cf_size k_361 (cp_2 hA) rfl rfl (zlq rfl) rfl (zlq rfl) (zlq rfl) d_P_may_9 ?_
    refine z_icmp_lt (tgt := 19) d_P_may_14 (by decide) (fun c14 => ?_) (fun c14 => ?_)
    · obtain ⟨ij, hij, rfl⟩ := zrng c1 c14 (by omega)
      obtain ⟨⟨s8, l8⟩, ⟨s9, l9⟩, ⟨s10, l10, l10a⟩, ⟨s11, l11, l11a, l11b⟩, s12, s13, s15⟩ := hst ij (by omega)
      have e8 : kX X 8 ij = nI (ne (kX X) 8 ij) := by unfold ne; rw [kX_o (by decide)]; exact s8
      have e9 : kX X 9 ij = nI (ne (kX X) 9 ij) := by unfold ne; rw [kX_o (by decide)]; exact s9
      have e11 : kX X 11 ij = nI (ne (kX X) 11 ij) := by unfold ne; rw [kX_o (by decide)]; exact s11
      have n8 : ne (kX X) 8 ij = ne X 8 ij := by unfold ne; rw [kX_o (by decide)]
      have n9 : ne (kX X) 9 ij = ne X 9 ij := by unfold ne; rw [kX_o (by decide)]
      have n11 : ne (kX X) 11 ij = ne X 11 ij := by unfold ne; rw [kX_o (by decide)]
      refine z_aload_n d_P_may_19 rfl ?_
      refine z_get fa_P_25 d_P_may_20 (cp_0 hA) rfl ?_
      refine z_iload_n d_P_may_23 rfl ?_
      refine z_cFr (c_getS l E hA _ _ _ hK (ij) (by omega)) cb_AL_get cf_get k_420 (cp_2 hA) rfl rfl (zlq rfl) rfl (zlq rfl) (zlq rfl) d_P_may_24 ?_
      refine z_rf ?_
      refine z_cast (r := (R_St, F_St, 8)) rfl k_369 k_1144 (cp_8 hA (j := ij) (by omega)) d_P_may_29 ?_
      refine z_astore_n d_P_may_32 (zlt rfl) ?_
      refine z_aload_n d_P_may_33 rfl ?_
      refine z_get fa_P_159 d_P_may_34 (cp_8 hA (j := ij) (by omega)) rfl ?_
      refine z_top s9 ?_
      refine z_iconst d_P_may_37 ic_4 ?_
      refine z_icmp_eq (tgt := 53) d_P_may_38 (by decide) (fun c38 => ?_) (fun c38 => ?_)
      · have c38n := (nI_eq (by omega) (by omega)).mp c38
        have l11c := l11b (by rw [(nI_eq (by omega) (by decide)).mp c38]; decide) (by rw [(nI_eq (by omega) (by decide)).mp c38]; decide)
        refine z_aload_n d_P_may_53 rfl ?_
        refine z_cVv (c_P_find l E hA _ _ _ hX hK f hF) cb_P_find ci_P_find ln_P_123 (cp_0 hA) rfl rfl (zlq rfl) rfl (zlq rfl) (zlq rfl) d_P_may_54 ?_
        refine z_iconst d_P_may_57 ic_0 ?_
        refine z_istore_n d_P_may_58 (zlt rfl) ?_
        refine z_iconst d_P_may_59 ic_0 ?_
        refine z_istore d_P_may_60 (zlt rfl) ?_
        refine zlp (Gh := fun (kz : Nat) (Z : Int32) => zG (zcx l E b_P_may "PointsToRounds" 7 ((some .int)) false rm_P_may (cp E A K X S R) sz (zPi (qMay X K f S (nI ij)).1 (cp E A K (qMay X K f S (nI ij)).2.1 (qMay X K f S (nI ij)).2.2 R))) 0 0 62 [some (.ref (A (0, 0))), some (.int (nI (ij))), some (.ref (A (8, ij))), some (.int (Z)), some (.int (nI (kz))), none, none] [] (cp E A K (kX X) (kS X K f S) R)) (f := fun c z => qM1 (kS X K f S) (ne (kX X) 8 ij) (ne (kX X) 11 ij) c z) (N := 21) (x0 := (nI 0)) ?_ ?_
        rotate_left
        · intro c hc ihc
          generalize zit _ c _ = Zc at ihc ⊢
          show zG (zcx l E b_P_may "PointsToRounds" 7 ((some .int)) false rm_P_may (cp E A K X S R) sz (zPi (qMay X K f S (nI ij)).1 (cp E A K (qMay X K f S (nI ij)).2.1 (qMay X K f S (nI ij)).2.2 R))) 0 0 62 [some (.ref (A (0, 0))), some (.int (nI (ij))), some (.ref (A (8, ij))), some (.int (Zc)), some (.int (nI (c))), none, none] [] (cp E A K (kX X) (kS X K f S) R)
          try dsimp only at ihc
          refine z_iload d_P_may_62 rfl ?_
          refine z_bipush d_P_may_64 bp_21 ?_
          refine z_icmp_ge (tgt := 117) d_P_may_66 (by decide) (fun c66 => absurd c66 (nI_ge hc (by omega))) (fun c66 => ?_)
          have c66n := (not_congr (nI_leI (by omega) (by omega))).mp c66
          refine z_aload_n d_P_may_69 rfl ?_
          refine z_get fa_P_40 d_P_may_70 (cp_0 hA) rfl ?_
          refine z_aload_n d_P_may_73 rfl ?_
          refine z_get fa_P_162 d_P_may_74 (cp_8 hA (j := ij) (by omega)) rfl ?_
          refine z_top e8 ?_
          refine z_iload d_P_may_77 rfl ?_
          refine z_cVr (c_Se_body l E hA _ _ _ (ne (kX X) 8 ij) (c) (by omega) (by omega)) cb_Se_body ci_Se_body ln_P_128 (cp_9 hA) rfl rfl (zlq rfl) rfl (zlq rfl) (zlq rfl) d_P_may_79 ?_
          refine z_rf ?_
          refine z_astore d_P_may_82 (zlt rfl) ?_
          refine z_iload_n d_P_may_84 rfl ?_
          refine z_aload d_P_may_85 rfl ?_
          refine z_get fa_P_156 d_P_may_87 (cp_19 hA (j := 21 * (ne (kX X) 8 ij) + (c)) (by omega)) rfl ?_
          refine z_if_eq (tgt := 108) d_P_may_90 (by decide) (fun c90 => ?_) (fun c90 => ?_)
          · have c90n := bI_e.mp c90
            refine z_iconst d_P_may_108 ic_0 ?_
            refine z_ior d_P_may_109 ?_
            refine z_istore_n d_P_may_110 (zlt rfl) ?_
            refine z_iinc (v := nI (c + 1)) d_P_may_111 (zlt rfl) rfl (zinc _) ?_
            refine z_goto (tgt := 62) d_P_may_114 (by decide) ?_
            refine z_fl 5 ?_
            unfold qM1 at ihc
            rw [if_neg (zbf c90n)] at ihc
            exact ihc
          · have c90n := bI_n.mp c90
            refine z_aload d_P_may_93 rfl ?_
            refine z_aload_n d_P_may_95 rfl ?_
            refine z_get fa_P_165 d_P_may_96 (cp_8 hA (j := ij) (by omega)) rfl ?_
            refine z_top e11 ?_
            refine z_cVr (c_name l E hA _ _ _ (21 * (ne (kX X) 8 ij) + (c)) (ne (kX X) 11 ij) (by omega) (by omega)) cb_Bo_name ci_Bo_name ln_P_132 (cp_19 hA (j := 21 * (ne (kX X) 8 ij) + (c)) (by omega)) rfl rfl (zlq rfl) rfl (zlq rfl) (zlq rfl) d_P_may_99 ?_
            refine z_rf ?_
            refine z_get fa_P_138 d_P_may_102 (cp_22 hA (j := 6 * (21 * (ne (kX X) 8 ij) + (c)) + ne (kX X) 11 ij) (by omega)) rfl ?_
            refine z_goto (tgt := 109) d_P_may_105 (by decide) ?_
            refine z_ior d_P_may_109 ?_
            refine z_istore_n d_P_may_110 (zlt rfl) ?_
            refine z_iinc (v := nI (c + 1)) d_P_may_111 (zlt rfl) rfl (zinc _) ?_
            refine z_goto (tgt := 62) d_P_may_114 (by decide) ?_
            refine z_fl 5 ?_
            unfold qM1 at ihc
            rw [if_pos c90n] at ihc
            exact ihc
        rw [show (zit (fun c z => qM1 (kS X K f S) (ne (kX X) 8 ij) (ne (kX X) 11 ij) c z) (21) (nI 0)) = (qMs (kS X K f S) (ne (kX X) 8 ij) (ne (kX X) 11 ij)) from rfl]
        show zG (zcx l E b_P_may "PointsToRounds" 7 ((some .int)) false rm_P_may (cp E A K X S R) sz (zPi (qMay X K f S (nI ij)).1 (cp E A K (qMay X K f S (nI ij)).2.1 (qMay X K f S (nI ij)).2.2 R))) 0 0 62 [some (.ref (A (0, 0))), some (.int (nI (ij))), some (.ref (A (8, ij))), some (.int ((qMs (kS X K f S) (ne (kX X) 8 ij) (ne (kX X) 11 ij)))), some (.int (nI 21)), none, none] [] (cp E A K (kX X) (kS X K f S) R)
        refine z_iload d_P_may_62 rfl ?_
        refine z_bipush d_P_may_64 bp_21 ?_
        refine z_icmp_ge (tgt := 117) d_P_may_66 (by decide) (fun c66 => ?_) (fun c66 => absurd (by decide +kernel) c66)
        refine z_aload_n d_P_may_117 rfl ?_
        refine z_get fa_P_159 d_P_may_118 (cp_8 hA (j := ij) (by omega)) rfl ?_
        refine z_top e9 ?_
        refine z_iconst d_P_may_121 ic_4 ?_
        refine z_icmp_ne (tgt := 139) d_P_may_122 (by decide) (fun c122 => ?_) (fun c122 => ?_)
        · have c122n := (not_congr (nI_eq (by omega) (by omega))).mp c122
          refine z_iconst d_P_may_139 ic_0 ?_
          refine z_istore d_P_may_140 (zlt rfl) ?_
          refine z_iconst d_P_may_142 ic_0 ?_
          refine z_istore d_P_may_143 (zlt rfl) ?_
          refine zlp (Gh := fun (kz : Nat) (Z : Int32) => zG (zcx l E b_P_may "PointsToRounds" 7 ((some .int)) false rm_P_may (cp E A K X S R) sz (zPi (qMay X K f S (nI ij)).1 (cp E A K (qMay X K f S (nI ij)).2.1 (qMay X K f S (nI ij)).2.2 R))) 0 0 145 [some (.ref (A (0, 0))), some (.int (nI (ij))), some (.ref (A (8, ij))), some (.int ((qMs (kS X K f S) (ne (kX X) 8 ij) (ne (kX X) 11 ij)))), some (.int (Z)), some (.int (nI (kz))), none] [] (cp E A K (kX X) (kS X K f S) R)) (f := fun o z => qM2 (kX X) (qMs (kS X K f S) (ne (kX X) 8 ij) (ne (kX X) 11 ij)) (kX X 12 ij) o z) (N := cn (kX X) 16) (x0 := (nI 0)) ?_ ?_
          rotate_left
          · intro o ho iho
            generalize zit _ o _ = Zo at iho ⊢
            show zG (zcx l E b_P_may "PointsToRounds" 7 ((some .int)) false rm_P_may (cp E A K X S R) sz (zPi (qMay X K f S (nI ij)).1 (cp E A K (qMay X K f S (nI ij)).2.1 (qMay X K f S (nI ij)).2.2 R))) 0 0 145 [some (.ref (A (0, 0))), some (.int (nI (ij))), some (.ref (A (8, ij))), some (.int ((qMs (kS X K f S) (ne (kX X) 8 ij) (ne (kX X) 11 ij)))), some (.int (Zo)), some (.int (nI (o))), none] [] (cp E A K (kX X) (kS X K f S) R)
            try dsimp only at iho
            refine z_iload d_P_may_145 rfl ?_
            refine z_aload_n d_P_may_147 rfl ?_
            refine z_get fa_P_52 d_P_may_148 (cp_0 hA) rfl ?_
            refine z_top g16 ?_
            refine z_icmp_ge (tgt := 209) d_P_may_151 (by decide) (fun c151 => absurd c151 (nI_ge ho (by omega))) (fun c151 => ?_)
            have c151n := (not_congr (nI_leI (by omega) (by omega))).mp c151
            refine z_iload_n d_P_may_154 rfl ?_
            refine z_iload d_P_may_155 rfl ?_
            refine z_ishr d_P_may_157 ?_
            refine z_iconst d_P_may_158 ic_1 ?_
            refine z_iand d_P_may_159 ?_
            refine z_iconst d_P_may_160 ic_1 ?_
            refine z_icmp_ne (tgt := 182) d_P_may_161 (by decide) (fun c161 => ?_) (fun c161 => ?_)
            · refine z_iconst (v := -1) d_P_may_182 ic_m1 ?_
              refine z_istore d_P_may_183 (zlt rfl) ?_
              refine z_iload d_P_may_185 rfl ?_
              refine z_iload d_P_may_187 rfl ?_
              refine z_if_ge (tgt := 196) d_P_may_189 (by decide) (fun q => absurd q zneg2) (fun _ => ?_)
              refine z_iconst d_P_may_192 ic_0 ?_
              refine z_goto (tgt := 200) d_P_may_193 (by decide) ?_
              refine z_ior d_P_may_200 ?_
              refine z_istore d_P_may_201 (zlt rfl) ?_
              refine z_iinc (v := nI (o + 1)) d_P_may_203 (zlt rfl) rfl (zinc _) ?_
              refine z_goto (tgt := 145) d_P_may_206 (by decide) ?_
              refine z_fl 6 ?_
              unfold qM2 at iho
              rw [if_neg (tbF c161)] at iho
              exact iho
            · refine z_aload_n d_P_may_164 rfl ?_
              refine z_aload_n d_P_may_165 rfl ?_
              refine z_get fa_P_32 d_P_may_166 (cp_0 hA) rfl ?_
              refine z_iload d_P_may_169 rfl ?_
              refine z_iald (o) d_P_may_171 (cp_1_4 hA) rfl (show o < 20 from by omega) (by decide) ?_
              refine z_aload_n d_P_may_172 rfl ?_
              refine z_get fa_P_168 d_P_may_173 (cp_8 hA (j := ij) (by omega)) rfl ?_
              refine z_cVi (c_P_found l E hA _ _ _ (tInv_kX hX) ((kX X) 17 (o)) ((kX X) 12 (ij)) (Or.inr (gs _ ho))) cb_P_found ci_P_found ln_P_174 (cp_0 hA) rfl rfl (zlq rfl) rfl (zlq rfl) (zlq rfl) d_P_may_176 ?_
              refine z_goto (tgt := 183) d_P_may_179 (by decide) ?_
              refine z_istore d_P_may_183 (zlt rfl) ?_
              refine z_iload d_P_may_185 rfl ?_
              refine z_iload d_P_may_187 rfl ?_
              refine z_if_ge (tgt := 196) d_P_may_189 (by decide) (fun c189 => ?_) (fun c189 => ?_)
              · refine z_iconst d_P_may_196 ic_1 ?_
                refine z_iload d_P_may_197 rfl ?_
                refine z_ishl d_P_may_199 ?_
                refine z_ior d_P_may_200 ?_
                refine z_istore d_P_may_201 (zlt rfl) ?_
                refine z_iinc (v := nI (o + 1)) d_P_may_203 (zlt rfl) rfl (zinc _) ?_
                refine z_goto (tgt := 145) d_P_may_206 (by decide) ?_
                refine z_fl 6 ?_
                unfold qM2 at iho
                rw [if_pos (tbT c161), if_pos c189] at iho
                exact iho
              · refine z_iconst d_P_may_192 ic_0 ?_
                refine z_goto (tgt := 200) d_P_may_193 (by decide) ?_
                refine z_ior d_P_may_200 ?_
                refine z_istore d_P_may_201 (zlt rfl) ?_
                refine z_iinc (v := nI (o + 1)) d_P_may_203 (zlt rfl) rfl (zinc _) ?_
                refine z_goto (tgt := 145) d_P_may_206 (by decide) ?_
                refine z_fl 6 ?_
                unfold qM2 at iho
                rw [if_pos (tbT c161), if_neg c189] at iho
                exact iho
          show zG (zcx l E b_P_may "PointsToRounds" 7 ((some .int)) false rm_P_may (cp E A K X S R) sz (zPi (qMay X K f S (nI ij)).1 (cp E A K (qMay X K f S (nI ij)).2.1 (qMay X K f S (nI ij)).2.2 R))) 0 0 145 [some (.ref (A (0, 0))), some (.int (nI (ij))), some (.ref (A (8, ij))), some (.int ((qMs (kS X K f S) (ne (kX X) 8 ij) (ne (kX X) 11 ij)))), some (.int ((zit (fun o z => qM2 (kX X) (qMs (kS X K f S) (ne (kX X) 8 ij) (ne (kX X) 11 ij)) (kX X 12 ij) o z) (cn (kX X) 16) (nI 0)))), some (.int (nI (cn (kX X) 16))), none] [] (cp E A K (kX X) (kS X K f S) R)
          refine z_iload d_P_may_145 rfl ?_
          refine z_aload_n d_P_may_147 rfl ?_
          refine z_get fa_P_52 d_P_may_148 (cp_0 hA) rfl ?_
          refine z_top g16 ?_
          refine z_icmp_ge (tgt := 209) d_P_may_151 (by decide) (fun c151 => ?_) (fun c151 => absurd (nI_le (Nat.le_refl _) (by omega)) c151)
          have c151n := (nI_leI (by omega) (by omega)).mp c151
          refine z_iload d_P_may_209 rfl ?_
          exact z_iret rfl d_P_may_211 (zlq rfl) (zlq rfl) (by unfold qMay; rw [if_neg c1, if_pos c14, nI_clamp (show ij < 2 ^ 31 by omega), if_pos c38]; unfold qM3; rw [if_neg c122]; exact ⟨rfl, rfl⟩)
        · have c122n := (nI_eq (by omega) (by omega)).mp c122
          refine z_iload_n d_P_may_125 rfl ?_
          refine z_aload_n d_P_may_126 rfl ?_
          refine z_iload_n d_P_may_127 rfl ?_
          refine z_aload_n d_P_may_128 rfl ?_
          refine z_get fa_P_168 d_P_may_129 (cp_8 hA (j := ij) (by omega)) rfl ?_
          refine z_cVi (c_P_under l E hA _ _ _ (tInv_kX hX) ((qMs (kS X K f S) (ne (kX X) 8 ij) (ne (kX X) 11 ij))) ((kX X) 12 (ij))) cb_P_under ci_P_under ln_P_171 (cp_0 hA) rfl rfl (zlq rfl) rfl (zlq rfl) (zlq rfl) d_P_may_132 ?_
          refine z_iconst (v := -1) d_P_may_135 ic_m1 ?_
          refine z_ixor d_P_may_136 ?_
          refine z_iand d_P_may_137 ?_
          exact z_iret rfl d_P_may_138 (zlq rfl) (zlq rfl) (by unfold qMay; rw [if_neg c1, if_pos c14, nI_clamp (show ij < 2 ^ 31 by omega), if_pos c38]; unfold qM3; rw [if_pos c122]; exact ⟨rfl, rfl⟩)
      · have c38n := (not_congr (nI_eq (by omega) (by omega))).mp c38
        refine z_aload_n d_P_may_41 rfl ?_
        refine z_get fa_P_159 d_P_may_42 (cp_8 hA (j := ij) (by omega)) rfl ?_
        refine z_top s9 ?_
        refine z_bipush d_P_may_45 bp_7 ?_
        refine z_icmp_eq (tgt := 53) d_P_may_47 (by decide) (fun c47 => ?_) (fun c47 => ?_)
        · have c47n := (nI_eq (by omega) (by omega)).mp c47
          have l11c := l11b (by rw [(nI_eq (by omega) (by decide)).mp c47]; decide) (by rw [(nI_eq (by omega) (by decide)).mp c47]; decide)
          refine z_aload_n d_P_may_53 rfl ?_
          refine z_cVv (c_P_find l E hA _ _ _ hX hK f hF) cb_P_find ci_P_find ln_P_123 (cp_0 hA) rfl rfl (zlq rfl) rfl (zlq rfl) (zlq rfl) d_P_may_54 ?_
          refine z_iconst d_P_may_57 ic_0 ?_
          refine z_istore_n d_P_may_58 (zlt rfl) ?_
          refine z_iconst d_P_may_59 ic_0 ?_
          refine z_istore d_P_may_60 (zlt rfl) ?_
          refine zlp (Gh := fun (kz : Nat) (Z : Int32) => zG (zcx l E b_P_may "PointsToRounds" 7 ((some .int)) false rm_P_may (cp E A K X S R) sz (zPi (qMay X K f S (nI ij)).1 (cp E A K (qMay X K f S (nI ij)).2.1 (qMay X K f S (nI ij)).2.2 R))) 0 0 62 [some (.ref (A (0, 0))), some (.int (nI (ij))), some (.ref (A (8, ij))), some (.int (Z)), some (.int (nI (kz))), none, none] [] (cp E A K (kX X) (kS X K f S) R)) (f := fun c z => qM1 (kS X K f S) (ne (kX X) 8 ij) (ne (kX X) 11 ij) c z) (N := 21) (x0 := (nI 0)) ?_ ?_
          rotate_left
          · intro c hc ihc
            generalize zit _ c _ = Zc at ihc ⊢
            show zG (zcx l E b_P_may "PointsToRounds" 7 ((some .int)) false rm_P_may (cp E A K X S R) sz (zPi (qMay X K f S (nI ij)).1 (cp E A K (qMay X K f S (nI ij)).2.1 (qMay X K f S (nI ij)).2.2 R))) 0 0 62 [some (.ref (A (0, 0))), some (.int (nI (ij))), some (.ref (A (8, ij))), some (.int (Zc)), some (.int (nI (c))), none, none] [] (cp E A K (kX X) (kS X K f S) R)
            try dsimp only at ihc
            refine z_iload d_P_may_62 rfl ?_
            refine z_bipush d_P_may_64 bp_21 ?_
            refine z_icmp_ge (tgt := 117) d_P_may_66 (by decide) (fun c66 => absurd c66 (nI_ge hc (by omega))) (fun c66 => ?_)
            have c66n := (not_congr (nI_leI (by omega) (by omega))).mp c66
            refine z_aload_n d_P_may_69 rfl ?_
            refine z_get fa_P_40 d_P_may_70 (cp_0 hA) rfl ?_
            refine z_aload_n d_P_may_73 rfl ?_
            refine z_get fa_P_162 d_P_may_74 (cp_8 hA (j := ij) (by omega)) rfl ?_
            refine z_top e8 ?_
            refine z_iload d_P_may_77 rfl ?_
            refine z_cVr (c_Se_body l E hA _ _ _ (ne (kX X) 8 ij) (c) (by omega) (by omega)) cb_Se_body ci_Se_body ln_P_128 (cp_9 hA) rfl rfl (zlq rfl) rfl (zlq rfl) (zlq rfl) d_P_may_79 ?_
            refine z_rf ?_
            refine z_astore d_P_may_82 (zlt rfl) ?_
            refine z_iload_n d_P_may_84 rfl ?_
            refine z_aload d_P_may_85 rfl ?_
            refine z_get fa_P_156 d_P_may_87 (cp_19 hA (j := 21 * (ne (kX X) 8 ij) + (c)) (by omega)) rfl ?_
            refine z_if_eq (tgt := 108) d_P_may_90 (by decide) (fun c90 => ?_) (fun c90 => ?_)
            · have c90n := bI_e.mp c90
              refine z_iconst d_P_may_108 ic_0 ?_
              refine z_ior d_P_may_109 ?_
              refine z_istore_n d_P_may_110 (zlt rfl) ?_
              refine z_iinc (v := nI (c + 1)) d_P_may_111 (zlt rfl) rfl (zinc _) ?_
              refine z_goto (tgt := 62) d_P_may_114 (by decide) ?_
              refine z_fl 5 ?_
              unfold qM1 at ihc
              rw [if_neg (zbf c90n)] at ihc
              exact ihc
            · have c90n := bI_n.mp c90
              refine z_aload d_P_may_93 rfl ?_
              refine z_aload_n d_P_may_95 rfl ?_
              refine z_get fa_P_165 d_P_may_96 (cp_8 hA (j := ij) (by omega)) rfl ?_
              refine z_top e11 ?_
              refine z_cVr (c_name l E hA _ _ _ (21 * (ne (kX X) 8 ij) + (c)) (ne (kX X) 11 ij) (by omega) (by omega)) cb_Bo_name ci_Bo_name ln_P_132 (cp_19 hA (j := 21 * (ne (kX X) 8 ij) + (c)) (by omega)) rfl rfl (zlq rfl) rfl (zlq rfl) (zlq rfl) d_P_may_99 ?_
              refine z_rf ?_
              refine z_get fa_P_138 d_P_may_102 (cp_22 hA (j := 6 * (21 * (ne (kX X) 8 ij) + (c)) + ne (kX X) 11 ij) (by omega)) rfl ?_
              refine z_goto (tgt := 109) d_P_may_105 (by decide) ?_
              refine z_ior d_P_may_109 ?_
              refine z_istore_n d_P_may_110 (zlt rfl) ?_
              refine z_iinc (v := nI (c + 1)) d_P_may_111 (zlt rfl) rfl (zinc _) ?_
              refine z_goto (tgt := 62) d_P_may_114 (by decide) ?_
              refine z_fl 5 ?_
              unfold qM1 at ihc
              rw [if_pos c90n] at ihc
              exact ihc
          rw [show (zit (fun c z => qM1 (kS X K f S) (ne (kX X) 8 ij) (ne (kX X) 11 ij) c z) (21) (nI 0)) = (qMs (kS X K f S) (ne (kX X) 8 ij) (ne (kX X) 11 ij)) from rfl]
          show zG (zcx l E b_P_may "PointsToRounds" 7 ((some .int)) false rm_P_may (cp E A K X S R) sz (zPi (qMay X K f S (nI ij)).1 (cp E A K (qMay X K f S (nI ij)).2.1 (qMay X K f S (nI ij)).2.2 R))) 0 0 62 [some (.ref (A (0, 0))), some (.int (nI (ij))), some (.ref (A (8, ij))), some (.int ((qMs (kS X K f S) (ne (kX X) 8 ij) (ne (kX X) 11 ij)))), some (.int (nI 21)), none, none] [] (cp E A K (kX X) (kS X K f S) R)
          refine z_iload d_P_may_62 rfl ?_
          refine z_bipush d_P_may_64 bp_21 ?_
          refine z_icmp_ge (tgt := 117) d_P_may_66 (by decide) (fun c66 => ?_) (fun c66 => absurd (by decide +kernel) c66)
          refine z_aload_n d_P_may_117 rfl ?_
          refine z_get fa_P_159 d_P_may_118 (cp_8 hA (j := ij) (by omega)) rfl ?_
          refine z_top e9 ?_
          refine z_iconst d_P_may_121 ic_4 ?_
          refine z_icmp_ne (tgt := 139) d_P_may_122 (by decide) (fun c122 => ?_) (fun c122 => ?_)
          · have c122n := (not_congr (nI_eq (by omega) (by omega))).mp c122
            refine z_iconst d_P_may_139 ic_0 ?_
            refine z_istore d_P_may_140 (zlt rfl) ?_
            refine z_iconst d_P_may_142 ic_0 ?_
            refine z_istore d_P_may_143 (zlt rfl) ?_
            refine zlp (Gh := fun (kz : Nat) (Z : Int32) => zG (zcx l E b_P_may "PointsToRounds" 7 ((some .int)) false rm_P_may (cp E A K X S R) sz (zPi (qMay X K f S (nI ij)).1 (cp E A K (qMay X K f S (nI ij)).2.1 (qMay X K f S (nI ij)).2.2 R))) 0 0 145 [some (.ref (A (0, 0))), some (.int (nI (ij))), some (.ref (A (8, ij))), some (.int ((qMs (kS X K f S) (ne (kX X) 8 ij) (ne (kX X) 11 ij)))), some (.int (Z)), some (.int (nI (kz))), none] [] (cp E A K (kX X) (kS X K f S) R)) (f := fun o z => qM2 (kX X) (qMs (kS X K f S) (ne (kX X) 8 ij) (ne (kX X) 11 ij)) (kX X 12 ij) o z) (N := cn (kX X) 16) (x0 := (nI 0)) ?_ ?_
            rotate_left
            · intro o ho iho
              generalize zit _ o _ = Zo at iho ⊢
              show zG (zcx l E b_P_may "PointsToRounds" 7 ((some .int)) false rm_P_may (cp E A K X S R) sz (zPi (qMay X K f S (nI ij)).1 (cp E A K (qMay X K f S (nI ij)).2.1 (qMay X K f S (nI ij)).2.2 R))) 0 0 145 [some (.ref (A (0, 0))), some (.int (nI (ij))), some (.ref (A (8, ij))), some (.int ((qMs (kS X K f S) (ne (kX X) 8 ij) (ne (kX X) 11 ij)))), some (.int (Zo)), some (.int (nI (o))), none] [] (cp E A K (kX X) (kS X K f S) R)
              try dsimp only at iho
              refine z_iload d_P_may_145 rfl ?_
              refine z_aload_n d_P_may_147 rfl ?_
              refine z_get fa_P_52 d_P_may_148 (cp_0 hA) rfl ?_
              refine z_top g16 ?_
              refine z_icmp_ge (tgt := 209) d_P_may_151 (by decide) (fun c151 => absurd c151 (nI_ge ho (by omega))) (fun c151 => ?_)
              have c151n := (not_congr (nI_leI (by omega) (by omega))).mp c151
              refine z_iload_n d_P_may_154 rfl ?_
              refine z_iload d_P_may_155 rfl ?_
              refine z_ishr d_P_may_157 ?_
              refine z_iconst d_P_may_158 ic_1 ?_
              refine z_iand d_P_may_159 ?_
              refine z_iconst d_P_may_160 ic_1 ?_
              refine z_icmp_ne (tgt := 182) d_P_may_161 (by decide) (fun c161 => ?_) (fun c161 => ?_)
              · refine z_iconst (v := -1) d_P_may_182 ic_m1 ?_
                refine z_istore d_P_may_183 (zlt rfl) ?_
                refine z_iload d_P_may_185 rfl ?_
                refine z_iload d_P_may_187 rfl ?_
                refine z_if_ge (tgt := 196) d_P_may_189 (by decide) (fun q => absurd q zneg2) (fun _ => ?_)
                refine z_iconst d_P_may_192 ic_0 ?_
                refine z_goto (tgt := 200) d_P_may_193 (by decide) ?_
                refine z_ior d_P_may_200 ?_
                refine z_istore d_P_may_201 (zlt rfl) ?_
                refine z_iinc (v := nI (o + 1)) d_P_may_203 (zlt rfl) rfl (zinc _) ?_
                refine z_goto (tgt := 145) d_P_may_206 (by decide) ?_
                refine z_fl 6 ?_
                unfold qM2 at iho
                rw [if_neg (tbF c161)] at iho
                exact iho
              · refine z_aload_n d_P_may_164 rfl ?_
                refine z_aload_n d_P_may_165 rfl ?_
                refine z_get fa_P_32 d_P_may_166 (cp_0 hA) rfl ?_
                refine z_iload d_P_may_169 rfl ?_
                refine z_iald (o) d_P_may_171 (cp_1_4 hA) rfl (show o < 20 from by omega) (by decide) ?_
                refine z_aload_n d_P_may_172 rfl ?_
                refine z_get fa_P_168 d_P_may_173 (cp_8 hA (j := ij) (by omega)) rfl ?_
                refine z_cVi (c_P_found l E hA _ _ _ (tInv_kX hX) ((kX X) 17 (o)) ((kX X) 12 (ij)) (Or.inr (gs _ ho))) cb_P_found ci_P_found ln_P_174 (cp_0 hA) rfl rfl (zlq rfl) rfl (zlq rfl) (zlq rfl) d_P_may_176 ?_
                refine z_goto (tgt := 183) d_P_may_179 (by decide) ?_
                refine z_istore d_P_may_183 (zlt rfl) ?_
                refine z_iload d_P_may_185 rfl ?_
                refine z_iload d_P_may_187 rfl ?_
                refine z_if_ge (tgt := 196) d_P_may_189 (by decide) (fun c189 => ?_) (fun c189 => ?_)
                · refine z_iconst d_P_may_196 ic_1 ?_
                  refine z_iload d_P_may_197 rfl ?_
                  refine z_ishl d_P_may_199 ?_
                  refine z_ior d_P_may_200 ?_
                  refine z_istore d_P_may_201 (zlt rfl) ?_
                  refine z_iinc (v := nI (o + 1)) d_P_may_203 (zlt rfl) rfl (zinc _) ?_
                  refine z_goto (tgt := 145) d_P_may_206 (by decide) ?_
                  refine z_fl 6 ?_
                  unfold qM2 at iho
                  rw [if_pos (tbT c161), if_pos c189] at iho
                  exact iho
                · refine z_iconst d_P_may_192 ic_0 ?_
                  refine z_goto (tgt := 200) d_P_may_193 (by decide) ?_
                  refine z_ior d_P_may_200 ?_
                  refine z_istore d_P_may_201 (zlt rfl) ?_
                  refine z_iinc (v := nI (o + 1)) d_P_may_203 (zlt rfl) rfl (zinc _) ?_
                  refine z_goto (tgt := 145) d_P_may_206 (by decide) ?_
                  refine z_fl 6 ?_
                  unfold qM2 at iho
                  rw [if_pos (tbT c161), if_neg c189] at iho
                  exact iho
            show zG (zcx l E b_P_may "PointsToRounds" 7 ((some .int)) false rm_P_may (cp E A K X S R) sz (zPi (qMay X K f S (nI ij)).1 (cp E A K (qMay X K f S (nI ij)).2.1 (qMay X K f S (nI ij)).2.2 R))) 0 0 145 [some (.ref (A (0, 0))), some (.int (nI (ij))), some (.ref (A (8, ij))), some (.int ((qMs (kS X K f S) (ne (kX X) 8 ij) (ne (kX X) 11 ij)))), some (.int ((zit (fun o z => qM2 (kX X) (qMs (kS X K f S) (ne (kX X) 8 ij) (ne (kX X) 11 ij)) (kX X 12 ij) o z) (cn (kX X) 16) (nI 0)))), some (.int (nI (cn (kX X) 16))), none] [] (cp E A K (kX X) (kS X K f S) R)
            refine z_iload d_P_may_145 rfl ?_
            refine z_aload_n d_P_may_147 rfl ?_
            refine z_get fa_P_52 d_P_may_148 (cp_0 hA) rfl ?_
            refine z_top g16 ?_
            refine z_icmp_ge (tgt := 209) d_P_may_151 (by decide) (fun c151 => ?_) (fun c151 => absurd (nI_le (Nat.le_refl _) (by omega)) c151)
            have c151n := (nI_leI (by omega) (by omega)).mp c151
            refine z_iload d_P_may_209 rfl ?_
            exact z_iret rfl d_P_may_211 (zlq rfl) (zlq rfl) (by unfold qMay; rw [if_neg c1, if_pos c14, nI_clamp (show ij < 2 ^ 31 by omega), if_neg c38, if_pos c47]; unfold qM3; rw [if_neg c122]; exact ⟨rfl, rfl⟩)
          · have c122n := (nI_eq (by omega) (by omega)).mp c122
            refine z_iload_n d_P_may_125 rfl ?_
            refine z_aload_n d_P_may_126 rfl ?_
            refine z_iload_n d_P_may_127 rfl ?_
            refine z_aload_n d_P_may_128 rfl ?_
            refine z_get fa_P_168 d_P_may_129 (cp_8 hA (j := ij) (by omega)) rfl ?_
            refine z_cVi (c_P_under l E hA _ _ _ (tInv_kX hX) ((qMs (kS X K f S) (ne (kX X) 8 ij) (ne (kX X) 11 ij))) ((kX X) 12 (ij))) cb_P_under ci_P_under ln_P_171 (cp_0 hA) rfl rfl (zlq rfl) rfl (zlq rfl) (zlq rfl) d_P_may_132 ?_
            refine z_iconst (v := -1) d_P_may_135 ic_m1 ?_
            refine z_ixor d_P_may_136 ?_
            refine z_iand d_P_may_137 ?_
            exact z_iret rfl d_P_may_138 (zlq rfl) (zlq rfl) (by unfold qMay; rw [if_neg c1, if_pos c14, nI_clamp (show ij < 2 ^ 31 by omega), if_neg c38, if_pos c47]; unfold qM3; rw [if_pos c122]; exact ⟨rfl, rfl⟩)
        · have c47n := (not_congr (nI_eq (by omega) (by omega))).mp c47
          refine z_bipush (v := -3) d_P_may_50 bp_m3 ?_
          exact z_iret rfl d_P_may_52 (zlq rfl) (zlq rfl) (by unfold qMay; rw [if_neg c1, if_pos c14]; (try rw [nI_clamp (show ij < 2 ^ 31 by omega)]); rw [if_neg c38, if_neg c47]; exact ⟨rfl, rfl⟩)
    · refine z_iconst (v := -1) d_P_may_17 ic_m1 ?_
      exact z_iret rfl d_P_may_18 (zlq rfl) (zlq rfl) (by unfold qMay; rw [if_neg c1, if_neg c14]; exact ⟨rfl, rfl⟩)
