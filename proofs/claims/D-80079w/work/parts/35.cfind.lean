/-! the component: Sets.call, carry, find -/
/-- the lists' capacities and sizes -/
def kI (K : Nat → Nat → Nat) (X : zSt) : Prop := (K 100 0 = cn X 4 ∧ K 101 0 = cn X 7 ∧ K 105 0 = K 100 0 ∧ K 106 0 = K 101 0) ∧ (K 100 0 ≤ K 1 0 ∧ K 1 0 ≤ 90 ∧ (K 1 0 = 0 ∨ 10 ≤ K 1 0)) ∧ (K 101 0 ≤ K 0 0 ∧ K 0 0 ≤ 90 ∧ (K 0 0 = 0 ∨ 10 ≤ K 0 0)) ∧ (∀ m, m < K 100 0 → K 110 m ≤ K 2 m ∧ K 2 m ≤ 90 ∧ (K 2 m = 0 ∨ 10 ≤ K 2 m)) ∧ (∀ m k, m < K 100 0 → k < K 110 m → K 1000 (100 * m + k) < K 101 0)
theorem c_getB (l : Launch) (E : zE) {A : rl → Nat} {K : Nat → Nat → Nat} (hA : cIj K A) (X S R : zSt) (hK : kI K X) (m : Nat) (hm : m < K 100 0) : zM l E y_AL_get b_AL_get 2 (some (.object "java/lang/Object")) rm_AL_get [.ref (A (4, 0)), .int (nI m)] (cp E A K X S R) (zPr (some (A (6, m))) (cp E A K X S R)) := by
  obtain ⟨-, ⟨q1, q2, q3⟩, -⟩ := hK
  have e4 := cp_4 (E := E) (X := X) (S := S) (R := R) hA
  have hn : K 1 0 ≠ 0 := by omega
  rw [show car E A K 5 1 0 0 = .ref (A (5, 0)) from if_neg hn] at e4
  have h := c_AL_get l E _ (A (4, 0)) (A (5, 0)) (K 100 0) (K 1 0) _ _ e4 (cp_5 hA hn) q1 (by omega) m hm
  rw [if_pos hm] at h
  exact h
theorem c_getM (l : Launch) (E : zE) {A : rl → Nat} {K : Nat → Nat → Nat} (hA : cIj K A) (X S R : zSt) (hK : kI K X) (m k : Nat) (hm : m < K 100 0) (hk : k < K 110 m) : zM l E y_AL_get b_AL_get 2 (some (.object "java/lang/Object")) rm_AL_get [.ref (A (6, m)), .int (nI k)] (cp E A K X S R) (zPr (some (A (8, K 1000 (100 * m + k)))) (cp E A K X S R)) := by
  obtain ⟨q1, q2, q3⟩ := hK.2.2.2.1 m hm
  have k105 := hK.1.2.2.1
  have e4 := cp_6 (E := E) (X := X) (S := S) (R := R) hA (j := m) (by omega)
  have hn : K 2 m ≠ 0 := by omega
  rw [show car E A K 7 2 m m = .ref (A (7, m)) from if_neg hn] at e4
  have h := c_AL_get l E _ (A (6, m)) (A (7, m)) (K 110 m) (K 2 m) _ _ e4 (cp_7 hA (j := m) ⟨by omega, hn⟩) q1 (by omega) k hk
  rw [if_pos hk] at h
  exact h
theorem c_sizeM (l : Launch) (E : zE) {A : rl → Nat} {K : Nat → Nat → Nat} (hA : cIj K A) (X S R : zSt) (m : Nat) (hm : m < K 105 0) : zM l E y_AL_size b_AL_size 1 (some .int) rm_AL_size [.ref (A (6, m))] (cp E A K X S R) (zPi (nI (K 110 m)) (cp E A K X S R)) := c_AL_size l E _ _ _ _ _ (cp_6 hA hm)
theorem c_sizeS (l : Launch) (E : zE) {A : rl → Nat} {K : Nat → Nat → Nat} (hA : cIj K A) (X S R : zSt) : zM l E y_AL_size b_AL_size 1 (some .int) rm_AL_size [.ref (A (2, 0))] (cp E A K X S R) (zPi (nI (K 101 0)) (cp E A K X S R)) := c_AL_size l E _ _ _ _ _ (cp_2 hA)
theorem c_getS (l : Launch) (E : zE) {A : rl → Nat} {K : Nat → Nat → Nat} (hA : cIj K A) (X S R : zSt) (hK : kI K X) (m : Nat) (hm : m < K 101 0) : zM l E y_AL_get b_AL_get 2 (some (.object "java/lang/Object")) rm_AL_get [.ref (A (2, 0)), .int (nI m)] (cp E A K X S R) (zPr (some (A (8, m))) (cp E A K X S R)) := by
  obtain ⟨-, -, ⟨q1, q2, q3⟩, -⟩ := hK
  have e4 := cp_2 (E := E) (X := X) (S := S) (R := R) hA
  have hn : K 0 0 ≠ 0 := by omega
  rw [show car E A K 3 0 0 0 = .ref (A (3, 0)) from if_neg hn] at e4
  have h := c_AL_get l E _ (A (2, 0)) (A (3, 0)) (K 101 0) (K 0 0) _ _ e4 (cp_3 hA hn) q1 (by omega) m hm
  rw [if_pos hm] at h
  exact h
def cCl2 (X : zSt) (i b o t : Nat) (S : zSt) : zSt := cAd (cAd (cAd (cAd (cu S 72 t (bI (bz (S 72 t) || !bz (S 70 t)))) 20 (6 * t + 0) (sh1 o)) 20 (6 * t + 1) (S 20 (6 * b + ne X 13 i))) 20 (6 * t + 2) (S 20 (6 * b + ne X 14 i))) 20 (6 * b + ne X 10 i) (S 20 (6 * t + 5))
def cCl (X : zSt) (i b o : Nat) (S : zSt) : zSt := if 0 ≤ fdf X (X 12 i) 9 (X 17 o) then cCl2 X i b o (21 * (fdf X (X 12 i) 9 (X 17 o)).toNatClampNeg + tCx X o) S else S
abbrev rm_Se_call : Room := { frames := 4, cells := 0, slots := 0, locals := 86 }
set_option maxHeartbeats 4000000 in
set_option maxRecDepth 100000 in
theorem c_Se_call (l : Launch) (E : zE) {A : rl → Nat} {K : Nat → Nat → Nat} (hA : cIj K A) (X S R : zSt) (hX : tInv X) (i : Nat) (hi : i < cn X 7) (hi8 : i < K 106 0) (hk : ne X 9 i = 7) (b : Nat) (hb : b < 210) (o : Nat) (ho : o < cn X 16) : zM l E y_Se_call b_Se_call 6 (none) rm_Se_call [.ref (A (9, 0)), .ref (A (8, i)), .ref (A (19, b)), .int (nI o)] (cp E A K X S R) (zPv (cp E A K X (cCl X i b o S) R)) := by
  refine zM_w (by decide +kernel) rfl rfl (fun sz => ?_)
  obtain ⟨⟨⟨h0, b0⟩, ⟨h2, b2⟩, ⟨h4, b4⟩, ⟨h7, b7⟩, ⟨h16, b16⟩⟩, h18, h19, hp, hf0, hs, hst⟩ := id hX
  obtain ⟨⟨s8, l8⟩, ⟨s9, l9⟩, ⟨s10, l10, l10a⟩, ⟨s11, l11, l11a, l11b⟩, s12, s13, s15⟩ := hst i hi
  obtain ⟨⟨s13, l13⟩, s14, l14⟩ := s13 hk
  refine z_aload_n d_Se_call_0 rfl ?_
  refine z_get fa_Se_3 d_Se_call_1 (cp_9 hA) rfl ?_
  refine z_aload_n d_Se_call_4 rfl ?_
  refine z_get fa_Se_3 d_Se_call_5 (cp_9 hA) rfl ?_
  refine z_get fa_Se_149 d_Se_call_8 (cp_0 hA) rfl ?_
  refine z_iload_n d_Se_call_11 rfl ?_
  refine z_iald (o) d_Se_call_12 (cp_1_4 hA) rfl (show o < 20 from by omega) (by decide) ?_
  refine z_aload_n d_Se_call_13 rfl ?_
  refine z_get fa_Se_130 d_Se_call_14 (cp_8 hA (j := i) (by omega)) rfl ?_
  refine z_cVi (c_P_found l E hA _ _ _ hX (X 17 (o)) (X 12 (i)) (Or.inr (hs o ho))) cb_P_found ci_P_found ln_Se_152 (cp_0 hA) rfl rfl (zlq rfl) rfl (zlq rfl) (zlq rfl) d_Se_call_17 ?_
  refine z_istore d_Se_call_20 (zlt rfl) ?_
  refine z_iload d_Se_call_22 rfl ?_
  refine z_if_ge (tgt := 28) d_Se_call_24 (by decide) (fun c24 => ?_) (fun c24 => ?_)
  · obtain ⟨mn, hmn, em⟩ := fdf_nat 9 _ c24 (by omega)
    rw [em]
    refine z_aload_n d_Se_call_28 rfl ?_
    refine z_iload d_Se_call_29 rfl ?_
    refine z_aload_n d_Se_call_31 rfl ?_
    refine z_get fa_Se_3 d_Se_call_32 (cp_9 hA) rfl ?_
    refine z_get fa_Se_155 d_Se_call_35 (cp_0 hA) rfl ?_
    refine z_if_ne (tgt := 45) d_Se_call_38 (by decide) (fun c38 => ?_) (fun c38 => ?_)
    · refine z_iconst d_Se_call_45 ic_1 ?_
      refine z_iload_n d_Se_call_46 rfl ?_
      refine z_iadd d_Se_call_47 ?_
      refine z_top (nI_add (1) (o)) ?_
      refine z_cVr (c_Se_body l E hA _ _ _ (mn) (1 + o) (by omega) (by omega)) cb_Se_body ci_Se_body ln_Se_76 (cp_9 hA) rfl rfl (zlq rfl) rfl (zlq rfl) (zlq rfl) d_Se_call_48 ?_
      refine z_rf ?_
      refine z_astore d_Se_call_51 (zlt rfl) ?_
      refine z_aload d_Se_call_53 rfl ?_
      refine z_dup d_Se_call_55 rfl ?_
      refine z_get fa_Se_62 d_Se_call_56 (cp_19 hA (j := 21 * (mn) + (1 + o)) (by omega)) rfl ?_
      refine z_aload d_Se_call_59 rfl ?_
      refine z_get fa_Se_55 d_Se_call_61 (cp_19 hA (j := 21 * (mn) + (1 + o)) (by omega)) rfl ?_
      suffices J64 : zG (zcx l E b_Se_call "PointsToRounds$Sets" 6 (none) false rm_Se_call (cp E A K X S R) sz (zPv (cp E A K X (cCl X i b o S) R))) 0 0 72 [some (.ref (A (9, 0))), some (.ref (A (8, i))), some (.ref (A (19, b))), some (.int (nI (o))), some (.int (nI (mn))), some (.ref (A (19, 21 * (mn) + (1 + o))))] [.int (bI (!bz (S 70 (21 * (mn) + (1 + o))))), .int (bI (bz (S 72 (21 * (mn) + (1 + o))))), .ref (A (19, 21 * (mn) + (1 + o)))] (cp E A K X S R) by
        refine z_if_ne (tgt := 71) d_Se_call_64 (by decide) (fun c64 => ?_) (fun c64 => ?_)
        · have c64n := bI_n.mp c64
          refine z_iconst d_Se_call_71 ic_0 ?_
          exact z_top (x := nI 0) (y := bI (!bz (S 70 (21 * (mn) + (1 + o))))) (by rw [show (!bz (S 70 (21 * (mn) + (1 + o)))) = false by rw [c64n]; rfl]; rfl) J64
        · have c64n := bI_e.mp c64
          refine z_iconst d_Se_call_67 ic_1 ?_
          refine z_goto (tgt := 72) d_Se_call_68 (by decide) ?_
          exact z_top (x := nI 1) (y := bI (!bz (S 70 (21 * (mn) + (1 + o))))) (by rw [show (!bz (S 70 (21 * (mn) + (1 + o)))) = true by rw [c64n]; rfl]; rfl) J64
      refine z_ior d_Se_call_72 ?_
      refine z_top (bI_or _ _) ?_
      refine z_put fp_Se_62 d_Se_call_73 (cp_19 hA (j := 21 * (mn) + (1 + o)) (by omega)) (z_nb (bI_z _)) (z_fb (bI_z _)) (zlt rfl) ?_
      refine z_eqh (cp_p19_2 hA (by omega) (bI_z _)) ?_
      refine z_aload d_Se_call_76 rfl ?_
      refine z_iconst d_Se_call_78 ic_0 ?_
      refine z_cVr (c_name l E hA _ _ _ (21 * (mn) + (1 + o)) (0) (by omega) (by omega)) cb_Bo_name ci_Bo_name ln_Se_65 (cp_19 hA (j := 21 * (mn) + (1 + o)) (by omega)) rfl rfl (zlq rfl) rfl (zlq rfl) (zlq rfl) d_Se_call_79 ?_
      refine z_rf ?_
      refine z_iconst d_Se_call_82 ic_1 ?_
      refine z_iload_n d_Se_call_83 rfl ?_
      refine z_ishl d_Se_call_84 ?_
      refine z_cVv (c_add22 l E hA _ _ _ (6 * (21 * (mn) + (1 + o)) + 0) (by omega) ((nI 1 <<< (nI (o) &&& 31)))) cb_Ce_add ci_Ce_add ln_Se_117 (cp_22 hA (j := 6 * (21 * (mn) + (1 + o)) + 0) (by omega)) rfl rfl (zlq rfl) rfl (zlq rfl) (zlq rfl) d_Se_call_85 ?_
      refine z_aload d_Se_call_88 rfl ?_
      refine z_iconst d_Se_call_90 ic_1 ?_
      refine z_cVr (c_name l E hA _ _ _ (21 * (mn) + (1 + o)) (1) (by omega) (by omega)) cb_Bo_name ci_Bo_name ln_Se_65 (cp_19 hA (j := 21 * (mn) + (1 + o)) (by omega)) rfl rfl (zlq rfl) rfl (zlq rfl) (zlq rfl) d_Se_call_91 ?_
      refine z_rf ?_
      refine z_aload_n d_Se_call_94 rfl ?_
      refine z_aload_n d_Se_call_95 rfl ?_
      refine z_get fa_Se_158 d_Se_call_96 (cp_8 hA (j := i) (by omega)) rfl ?_
      refine z_top s13 ?_
      refine z_cVr (c_name l E hA _ _ _ (b) (ne X 13 i) (by omega) (by omega)) cb_Bo_name ci_Bo_name ln_Se_65 (cp_19 hA (j := b) (by omega)) rfl rfl (zlq rfl) rfl (zlq rfl) (zlq rfl) d_Se_call_99 ?_
      refine z_rf ?_
      refine z_get fa_Se_123 d_Se_call_102 (cp_22 hA (j := 6 * b + ne X 13 i) (by omega)) rfl ?_
      refine z_cVv (c_add22 l E hA _ _ _ (6 * (21 * (mn) + (1 + o)) + 1) (by omega) ((cAd (cu S 72 (21 * (mn) + (1 + o)) (bI (bz (S 72 (21 * (mn) + (1 + o))) || !bz (S 70 (21 * (mn) + (1 + o)))))) 20 (6 * (21 * (mn) + (1 + o)) + 0) ((nI 1 <<< (nI (o) &&& 31)))) 20 (6 * b + ne X 13 i))) cb_Ce_add ci_Ce_add ln_Se_117 (cp_22 hA (j := 6 * (21 * (mn) + (1 + o)) + 1) (by omega)) rfl rfl (zlq rfl) rfl (zlq rfl) (zlq rfl) d_Se_call_105 ?_
      refine z_aload d_Se_call_108 rfl ?_
      refine z_iconst d_Se_call_110 ic_2 ?_
      refine z_cVr (c_name l E hA _ _ _ (21 * (mn) + (1 + o)) (2) (by omega) (by omega)) cb_Bo_name ci_Bo_name ln_Se_65 (cp_19 hA (j := 21 * (mn) + (1 + o)) (by omega)) rfl rfl (zlq rfl) rfl (zlq rfl) (zlq rfl) d_Se_call_111 ?_
      refine z_rf ?_
      refine z_aload_n d_Se_call_114 rfl ?_
      refine z_aload_n d_Se_call_115 rfl ?_
      refine z_get fa_Se_161 d_Se_call_116 (cp_8 hA (j := i) (by omega)) rfl ?_
      refine z_top s14 ?_
      refine z_cVr (c_name l E hA _ _ _ (b) (ne X 14 i) (by omega) (by omega)) cb_Bo_name ci_Bo_name ln_Se_65 (cp_19 hA (j := b) (by omega)) rfl rfl (zlq rfl) rfl (zlq rfl) (zlq rfl) d_Se_call_119 ?_
      refine z_rf ?_
      refine z_get fa_Se_123 d_Se_call_122 (cp_22 hA (j := 6 * b + ne X 14 i) (by omega)) rfl ?_
      refine z_cVv (c_add22 l E hA _ _ _ (6 * (21 * (mn) + (1 + o)) + 2) (by omega) ((cAd (cAd (cu S 72 (21 * (mn) + (1 + o)) (bI (bz (S 72 (21 * (mn) + (1 + o))) || !bz (S 70 (21 * (mn) + (1 + o)))))) 20 (6 * (21 * (mn) + (1 + o)) + 0) ((nI 1 <<< (nI (o) &&& 31)))) 20 (6 * (21 * (mn) + (1 + o)) + 1) ((cAd (cu S 72 (21 * (mn) + (1 + o)) (bI (bz (S 72 (21 * (mn) + (1 + o))) || !bz (S 70 (21 * (mn) + (1 + o)))))) 20 (6 * (21 * (mn) + (1 + o)) + 0) ((nI 1 <<< (nI (o) &&& 31)))) 20 (6 * b + ne X 13 i))) 20 (6 * b + ne X 14 i))) cb_Ce_add ci_Ce_add ln_Se_117 (cp_22 hA (j := 6 * (21 * (mn) + (1 + o)) + 2) (by omega)) rfl rfl (zlq rfl) rfl (zlq rfl) (zlq rfl) d_Se_call_125 ?_
      refine z_aload_n d_Se_call_128 rfl ?_
      refine z_aload_n d_Se_call_129 rfl ?_
      refine z_get fa_Se_111 d_Se_call_130 (cp_8 hA (j := i) (by omega)) rfl ?_
      refine z_top s10 ?_
      refine z_cVr (c_name l E hA _ _ _ (b) (ne X 10 i) (by omega) (by omega)) cb_Bo_name ci_Bo_name ln_Se_65 (cp_19 hA (j := b) (by omega)) rfl rfl (zlq rfl) rfl (zlq rfl) (zlq rfl) d_Se_call_133 ?_
      refine z_rf ?_
      refine z_aload d_Se_call_136 rfl ?_
      refine z_iconst d_Se_call_138 ic_5 ?_
      refine z_cVr (c_name l E hA _ _ _ (21 * (mn) + (1 + o)) (5) (by omega) (by omega)) cb_Bo_name ci_Bo_name ln_Se_65 (cp_19 hA (j := 21 * (mn) + (1 + o)) (by omega)) rfl rfl (zlq rfl) rfl (zlq rfl) (zlq rfl) d_Se_call_139 ?_
      refine z_rf ?_
      refine z_get fa_Se_123 d_Se_call_142 (cp_22 hA (j := 6 * (21 * (mn) + (1 + o)) + 5) (by omega)) rfl ?_
      refine z_cVv (c_add22 l E hA _ _ _ (6 * b + ne X 10 i) (by omega) ((cAd (cAd (cAd (cu S 72 (21 * (mn) + (1 + o)) (bI (bz (S 72 (21 * (mn) + (1 + o))) || !bz (S 70 (21 * (mn) + (1 + o)))))) 20 (6 * (21 * (mn) + (1 + o)) + 0) ((nI 1 <<< (nI (o) &&& 31)))) 20 (6 * (21 * (mn) + (1 + o)) + 1) ((cAd (cu S 72 (21 * (mn) + (1 + o)) (bI (bz (S 72 (21 * (mn) + (1 + o))) || !bz (S 70 (21 * (mn) + (1 + o)))))) 20 (6 * (21 * (mn) + (1 + o)) + 0) ((nI 1 <<< (nI (o) &&& 31)))) 20 (6 * b + ne X 13 i))) 20 (6 * (21 * (mn) + (1 + o)) + 2) ((cAd (cAd (cu S 72 (21 * (mn) + (1 + o)) (bI (bz (S 72 (21 * (mn) + (1 + o))) || !bz (S 70 (21 * (mn) + (1 + o)))))) 20 (6 * (21 * (mn) + (1 + o)) + 0) ((nI 1 <<< (nI (o) &&& 31)))) 20 (6 * (21 * (mn) + (1 + o)) + 1) ((cAd (cu S 72 (21 * (mn) + (1 + o)) (bI (bz (S 72 (21 * (mn) + (1 + o))) || !bz (S 70 (21 * (mn) + (1 + o)))))) 20 (6 * (21 * (mn) + (1 + o)) + 0) ((nI 1 <<< (nI (o) &&& 31)))) 20 (6 * b + ne X 13 i))) 20 (6 * b + ne X 14 i))) 20 (6 * (21 * (mn) + (1 + o)) + 5))) cb_Ce_add ci_Ce_add ln_Se_117 (cp_22 hA (j := 6 * b + ne X 10 i) (by omega)) rfl rfl (zlq rfl) rfl (zlq rfl) (zlq rfl) d_Se_call_145 ?_
      exact z_vret rfl d_Se_call_148 (zlq rfl) (zlq rfl) (⟨rfl, by unfold cCl tCx; rw [if_pos c24, em, nI_clamp (show mn < 2 ^ 31 by omega), if_neg c38]; rfl⟩)
    · refine z_iconst d_Se_call_41 ic_0 ?_
      refine z_goto (tgt := 48) d_Se_call_42 (by decide) ?_
      refine z_cVr (c_Se_body l E hA _ _ _ (mn) (0) (by omega) (by omega)) cb_Se_body ci_Se_body ln_Se_76 (cp_9 hA) rfl rfl (zlq rfl) rfl (zlq rfl) (zlq rfl) d_Se_call_48 ?_
      refine z_rf ?_
      refine z_astore d_Se_call_51 (zlt rfl) ?_
      refine z_aload d_Se_call_53 rfl ?_
      refine z_dup d_Se_call_55 rfl ?_
      refine z_get fa_Se_62 d_Se_call_56 (cp_19 hA (j := 21 * (mn) + (0)) (by omega)) rfl ?_
      refine z_aload d_Se_call_59 rfl ?_
      refine z_get fa_Se_55 d_Se_call_61 (cp_19 hA (j := 21 * (mn) + (0)) (by omega)) rfl ?_
      suffices J64 : zG (zcx l E b_Se_call "PointsToRounds$Sets" 6 (none) false rm_Se_call (cp E A K X S R) sz (zPv (cp E A K X (cCl X i b o S) R))) 0 0 72 [some (.ref (A (9, 0))), some (.ref (A (8, i))), some (.ref (A (19, b))), some (.int (nI (o))), some (.int (nI (mn))), some (.ref (A (19, 21 * (mn) + (0))))] [.int (bI (!bz (S 70 (21 * (mn) + (0))))), .int (bI (bz (S 72 (21 * (mn) + (0))))), .ref (A (19, 21 * (mn) + (0)))] (cp E A K X S R) by
        refine z_if_ne (tgt := 71) d_Se_call_64 (by decide) (fun c64 => ?_) (fun c64 => ?_)
        · have c64n := bI_n.mp c64
          refine z_iconst d_Se_call_71 ic_0 ?_
          exact z_top (x := nI 0) (y := bI (!bz (S 70 (21 * (mn) + (0))))) (by rw [show (!bz (S 70 (21 * (mn) + (0)))) = false by rw [c64n]; rfl]; rfl) J64
        · have c64n := bI_e.mp c64
          refine z_iconst d_Se_call_67 ic_1 ?_
          refine z_goto (tgt := 72) d_Se_call_68 (by decide) ?_
          exact z_top (x := nI 1) (y := bI (!bz (S 70 (21 * (mn) + (0))))) (by rw [show (!bz (S 70 (21 * (mn) + (0)))) = true by rw [c64n]; rfl]; rfl) J64
      refine z_ior d_Se_call_72 ?_
      refine z_top (bI_or _ _) ?_
      refine z_put fp_Se_62 d_Se_call_73 (cp_19 hA (j := 21 * (mn) + (0)) (by omega)) (z_nb (bI_z _)) (z_fb (bI_z _)) (zlt rfl) ?_
      refine z_eqh (cp_p19_2 hA (by omega) (bI_z _)) ?_
      refine z_aload d_Se_call_76 rfl ?_
      refine z_iconst d_Se_call_78 ic_0 ?_
      refine z_cVr (c_name l E hA _ _ _ (21 * (mn) + (0)) (0) (by omega) (by omega)) cb_Bo_name ci_Bo_name ln_Se_65 (cp_19 hA (j := 21 * (mn) + (0)) (by omega)) rfl rfl (zlq rfl) rfl (zlq rfl) (zlq rfl) d_Se_call_79 ?_
      refine z_rf ?_
      refine z_iconst d_Se_call_82 ic_1 ?_
      refine z_iload_n d_Se_call_83 rfl ?_
      refine z_ishl d_Se_call_84 ?_
      refine z_cVv (c_add22 l E hA _ _ _ (6 * (21 * (mn) + (0)) + 0) (by omega) ((nI 1 <<< (nI (o) &&& 31)))) cb_Ce_add ci_Ce_add ln_Se_117 (cp_22 hA (j := 6 * (21 * (mn) + (0)) + 0) (by omega)) rfl rfl (zlq rfl) rfl (zlq rfl) (zlq rfl) d_Se_call_85 ?_
      refine z_aload d_Se_call_88 rfl ?_
      refine z_iconst d_Se_call_90 ic_1 ?_
      refine z_cVr (c_name l E hA _ _ _ (21 * (mn) + (0)) (1) (by omega) (by omega)) cb_Bo_name ci_Bo_name ln_Se_65 (cp_19 hA (j := 21 * (mn) + (0)) (by omega)) rfl rfl (zlq rfl) rfl (zlq rfl) (zlq rfl) d_Se_call_91 ?_
      refine z_rf ?_
      refine z_aload_n d_Se_call_94 rfl ?_
      refine z_aload_n d_Se_call_95 rfl ?_
      refine z_get fa_Se_158 d_Se_call_96 (cp_8 hA (j := i) (by omega)) rfl ?_
      refine z_top s13 ?_
      refine z_cVr (c_name l E hA _ _ _ (b) (ne X 13 i) (by omega) (by omega)) cb_Bo_name ci_Bo_name ln_Se_65 (cp_19 hA (j := b) (by omega)) rfl rfl (zlq rfl) rfl (zlq rfl) (zlq rfl) d_Se_call_99 ?_
      refine z_rf ?_
      refine z_get fa_Se_123 d_Se_call_102 (cp_22 hA (j := 6 * b + ne X 13 i) (by omega)) rfl ?_
      refine z_cVv (c_add22 l E hA _ _ _ (6 * (21 * (mn) + (0)) + 1) (by omega) ((cAd (cu S 72 (21 * (mn) + (0)) (bI (bz (S 72 (21 * (mn) + (0))) || !bz (S 70 (21 * (mn) + (0)))))) 20 (6 * (21 * (mn) + (0)) + 0) ((nI 1 <<< (nI (o) &&& 31)))) 20 (6 * b + ne X 13 i))) cb_Ce_add ci_Ce_add ln_Se_117 (cp_22 hA (j := 6 * (21 * (mn) + (0)) + 1) (by omega)) rfl rfl (zlq rfl) rfl (zlq rfl) (zlq rfl) d_Se_call_105 ?_
      refine z_aload d_Se_call_108 rfl ?_
      refine z_iconst d_Se_call_110 ic_2 ?_
      refine z_cVr (c_name l E hA _ _ _ (21 * (mn) + (0)) (2) (by omega) (by omega)) cb_Bo_name ci_Bo_name ln_Se_65 (cp_19 hA (j := 21 * (mn) + (0)) (by omega)) rfl rfl (zlq rfl) rfl (zlq rfl) (zlq rfl) d_Se_call_111 ?_
      refine z_rf ?_
      refine z_aload_n d_Se_call_114 rfl ?_
      refine z_aload_n d_Se_call_115 rfl ?_
      refine z_get fa_Se_161 d_Se_call_116 (cp_8 hA (j := i) (by omega)) rfl ?_
      refine z_top s14 ?_
      refine z_cVr (c_name l E hA _ _ _ (b) (ne X 14 i) (by omega) (by omega)) cb_Bo_name ci_Bo_name ln_Se_65 (cp_19 hA (j := b) (by omega)) rfl rfl (zlq rfl) rfl (zlq rfl) (zlq rfl) d_Se_call_119 ?_
      refine z_rf ?_
      refine z_get fa_Se_123 d_Se_call_122 (cp_22 hA (j := 6 * b + ne X 14 i) (by omega)) rfl ?_
      refine z_cVv (c_add22 l E hA _ _ _ (6 * (21 * (mn) + (0)) + 2) (by omega) ((cAd (cAd (cu S 72 (21 * (mn) + (0)) (bI (bz (S 72 (21 * (mn) + (0))) || !bz (S 70 (21 * (mn) + (0)))))) 20 (6 * (21 * (mn) + (0)) + 0) ((nI 1 <<< (nI (o) &&& 31)))) 20 (6 * (21 * (mn) + (0)) + 1) ((cAd (cu S 72 (21 * (mn) + (0)) (bI (bz (S 72 (21 * (mn) + (0))) || !bz (S 70 (21 * (mn) + (0)))))) 20 (6 * (21 * (mn) + (0)) + 0) ((nI 1 <<< (nI (o) &&& 31)))) 20 (6 * b + ne X 13 i))) 20 (6 * b + ne X 14 i))) cb_Ce_add ci_Ce_add ln_Se_117 (cp_22 hA (j := 6 * (21 * (mn) + (0)) + 2) (by omega)) rfl rfl (zlq rfl) rfl (zlq rfl) (zlq rfl) d_Se_call_125 ?_
      refine z_aload_n d_Se_call_128 rfl ?_
      refine z_aload_n d_Se_call_129 rfl ?_
      refine z_get fa_Se_111 d_Se_call_130 (cp_8 hA (j := i) (by omega)) rfl ?_
      refine z_top s10 ?_
      refine z_cVr (c_name l E hA _ _ _ (b) (ne X 10 i) (by omega) (by omega)) cb_Bo_name ci_Bo_name ln_Se_65 (cp_19 hA (j := b) (by omega)) rfl rfl (zlq rfl) rfl (zlq rfl) (zlq rfl) d_Se_call_133 ?_
      refine z_rf ?_
      refine z_aload d_Se_call_136 rfl ?_
      refine z_iconst d_Se_call_138 ic_5 ?_
      refine z_cVr (c_name l E hA _ _ _ (21 * (mn) + (0)) (5) (by omega) (by omega)) cb_Bo_name ci_Bo_name ln_Se_65 (cp_19 hA (j := 21 * (mn) + (0)) (by omega)) rfl rfl (zlq rfl) rfl (zlq rfl) (zlq rfl) d_Se_call_139 ?_
      refine z_rf ?_
      refine z_get fa_Se_123 d_Se_call_142 (cp_22 hA (j := 6 * (21 * (mn) + (0)) + 5) (by omega)) rfl ?_
      refine z_cVv (c_add22 l E hA _ _ _ (6 * b + ne X 10 i) (by omega) ((cAd (cAd (cAd (cu S 72 (21 * (mn) + (0)) (bI (bz (S 72 (21 * (mn) + (0))) || !bz (S 70 (21 * (mn) + (0)))))) 20 (6 * (21 * (mn) + (0)) + 0) ((nI 1 <<< (nI (o) &&& 31)))) 20 (6 * (21 * (mn) + (0)) + 1) ((cAd (cu S 72 (21 * (mn) + (0)) (bI (bz (S 72 (21 * (mn) + (0))) || !bz (S 70 (21 * (mn) + (0)))))) 20 (6 * (21 * (mn) + (0)) + 0) ((nI 1 <<< (nI (o) &&& 31)))) 20 (6 * b + ne X 13 i))) 20 (6 * (21 * (mn) + (0)) + 2) ((cAd (cAd (cu S 72 (21 * (mn) + (0)) (bI (bz (S 72 (21 * (mn) + (0))) || !bz (S 70 (21 * (mn) + (0)))))) 20 (6 * (21 * (mn) + (0)) + 0) ((nI 1 <<< (nI (o) &&& 31)))) 20 (6 * (21 * (mn) + (0)) + 1) ((cAd (cu S 72 (21 * (mn) + (0)) (bI (bz (S 72 (21 * (mn) + (0))) || !bz (S 70 (21 * (mn) + (0)))))) 20 (6 * (21 * (mn) + (0)) + 0) ((nI 1 <<< (nI (o) &&& 31)))) 20 (6 * b + ne X 13 i))) 20 (6 * b + ne X 14 i))) 20 (6 * (21 * (mn) + (0)) + 5))) cb_Ce_add ci_Ce_add ln_Se_117 (cp_22 hA (j := 6 * b + ne X 10 i) (by omega)) rfl rfl (zlq rfl) rfl (zlq rfl) (zlq rfl) d_Se_call_145 ?_
      exact z_vret rfl d_Se_call_148 (zlq rfl) (zlq rfl) (⟨rfl, by unfold cCl tCx; rw [if_pos c24, em, nI_clamp (show mn < 2 ^ 31 by omega), if_pos c38]; rfl⟩)
  · exact z_vret rfl d_Se_call_27 (zlq rfl) (zlq rfl) (⟨rfl, by unfold cCl; rw [if_neg c24]⟩)
def cL2 (X : zSt) (i b o : Nat) (S : zSt) : zSt := if tb (S 20 (6 * b + ne X 11 i)) o = true then (if und X 9 (X 17 o) (X 3 (ne X 12 i)) = true then cAd S 20 (6 * b + ne X 10 i) (S 22 (8 * o + ne X 12 i)) else S) else S
def cL3 (X : zSt) (i b o : Nat) (S : zSt) : zSt := if tb (S 20 (6 * b + ne X 10 i)) o = true then (if und X 9 (X 17 o) (X 3 (ne X 12 i)) = true then cAd S 22 (8 * o + ne X 12 i) (S 20 (6 * b + ne X 11 i)) else S) else S
def cL7 (X : zSt) (i b o : Nat) (S : zSt) : zSt := if tb (S 20 (6 * b + ne X 11 i)) o = true then cCl X i b o S else S
def cL8 (X : zSt) (i b o : Nat) (S : zSt) : zSt := if tb (S 20 (6 * b + ne X 11 i)) o = true then cAd S 20 (6 * b + ne X 10 i) (S 24 o) else S
def cL9 (X : zSt) (i b o : Nat) (S : zSt) : zSt := if tb (S 20 (6 * b + ne X 10 i)) o = true then cAd S 24 o (S 20 (6 * b + ne X 11 i)) else S
def cCar (X : zSt) (i b : Nat) (al : Bool) (S : zSt) : zSt := match ne X 9 i with
  | 0 => cAd S 20 (6 * b + ne X 10 i) (sh1 (ne X 15 i))
  | 1 => cAd S 20 (6 * b + ne X 10 i) (if al = true then S 20 (6 * b + ne X 11 i) else S 50 (6 * b + ne X 11 i))
  | 2 => zit (fun o S => cL2 X i b o S) (cn X 16) S
  | 3 => zit (fun o S => cL3 X i b o S) (cn X 16) S
  | 4 => cAd S 20 (6 * b + ne X 10 i) (cUnd X (S 20 (6 * b + ne X 11 i)) (X 12 i))
  | 5 => cAd S 20 (6 * b + ne X 10 i) (S 26 (ne X 11 i))
  | 6 => cAd S 26 (ne X 10 i) (S 20 (6 * b + ne X 11 i))
  | 7 => zit (fun o S => cL7 X i b o S) (cn X 16) S
  | 8 => zit (fun o S => cL8 X i b o S) (cn X 16) S
  | _ => zit (fun o S => cL9 X i b o S) (cn X 16) S
theorem cCar_0 {X : zSt} {i b : Nat} {al : Bool} {S : zSt} (e : ne X 9 i = 0) : cCar X i b al S = cAd S 20 (6 * b + ne X 10 i) (sh1 (ne X 15 i)) := by unfold cCar; rw [e]; rfl
theorem cCar_1 {X : zSt} {i b : Nat} {al : Bool} {S : zSt} (e : ne X 9 i = 1) : cCar X i b al S = cAd S 20 (6 * b + ne X 10 i) (if al = true then S 20 (6 * b + ne X 11 i) else S 50 (6 * b + ne X 11 i)) := by unfold cCar; rw [e]; rfl
theorem cCar_2 {X : zSt} {i b : Nat} {al : Bool} {S : zSt} (e : ne X 9 i = 2) : cCar X i b al S = zit (fun o S => cL2 X i b o S) (cn X 16) S := by unfold cCar; rw [e]; rfl
theorem cCar_3 {X : zSt} {i b : Nat} {al : Bool} {S : zSt} (e : ne X 9 i = 3) : cCar X i b al S = zit (fun o S => cL3 X i b o S) (cn X 16) S := by unfold cCar; rw [e]; rfl
theorem cCar_4 {X : zSt} {i b : Nat} {al : Bool} {S : zSt} (e : ne X 9 i = 4) : cCar X i b al S = cAd S 20 (6 * b + ne X 10 i) (cUnd X (S 20 (6 * b + ne X 11 i)) (X 12 i)) := by unfold cCar; rw [e]; rfl
theorem cCar_5 {X : zSt} {i b : Nat} {al : Bool} {S : zSt} (e : ne X 9 i = 5) : cCar X i b al S = cAd S 20 (6 * b + ne X 10 i) (S 26 (ne X 11 i)) := by unfold cCar; rw [e]; rfl
theorem cCar_6 {X : zSt} {i b : Nat} {al : Bool} {S : zSt} (e : ne X 9 i = 6) : cCar X i b al S = cAd S 26 (ne X 10 i) (S 20 (6 * b + ne X 11 i)) := by unfold cCar; rw [e]; rfl
theorem cCar_7 {X : zSt} {i b : Nat} {al : Bool} {S : zSt} (e : ne X 9 i = 7) : cCar X i b al S = zit (fun o S => cL7 X i b o S) (cn X 16) S := by unfold cCar; rw [e]; rfl
theorem cCar_8 {X : zSt} {i b : Nat} {al : Bool} {S : zSt} (e : ne X 9 i = 8) : cCar X i b al S = zit (fun o S => cL8 X i b o S) (cn X 16) S := by unfold cCar; rw [e]; rfl
theorem cCar_9 {X : zSt} {i b : Nat} {al : Bool} {S : zSt} (e : ne X 9 i = 9) : cCar X i b al S = zit (fun o S => cL9 X i b o S) (cn X 16) S := by unfold cCar; rw [e]; rfl
abbrev rm_Se_carry : Room := { frames := 5, cells := 0, slots := 0, locals := 111 }
set_option maxHeartbeats 4000000 in
set_option maxRecDepth 100000 in
theorem c_Se_carry (l : Launch) (E : zE) {A : rl → Nat} {K : Nat → Nat → Nat} (hA : cIj K A) (X S R : zSt) (hX : tInv X) (i : Nat) (hi : i < cn X 7) (hi8 : i < K 106 0) (b : Nat) (hb : b < 210) (al : Bool) : zM l E y_Se_carry b_Se_carry 5 (none) rm_Se_carry [.ref (A (9, 0)), .ref (A (8, i)), .ref (A (19, b)), .int (bI al)] (cp E A K X S R) (zPv (cp E A K X (cCar X i b al S) R)) := by
  refine zM_w (by decide +kernel) rfl rfl (fun sz => ?_)
  obtain ⟨⟨⟨h0, b0⟩, ⟨h2, b2⟩, ⟨h4, b4⟩, ⟨h7, b7⟩, ⟨h16, b16⟩⟩, h18, h19, hp, hf0, hs, hst⟩ := id hX
  obtain ⟨⟨s8, l8⟩, ⟨s9, l9⟩, ⟨s10, l10, l10a⟩, ⟨s11, l11, l11a, l11b⟩, s12, s13, s15⟩ := hst i hi
  rcases (show ne X 9 i = 0 ∨ ne X 9 i = 1 ∨ ne X 9 i = 2 ∨ ne X 9 i = 3 ∨ ne X 9 i = 4 ∨ ne X 9 i = 5 ∨ ne X 9 i = 6 ∨ ne X 9 i = 7 ∨ ne X 9 i = 8 ∨ ne X 9 i = 9 by omega) with e | e | e | e | e | e | e | e | e | e
  · have r15 := s15 e
    have r15b := r15.2
    refine z_aload_n d_Se_carry_0 rfl ?_
    refine z_get fa_Se_108 d_Se_carry_1 (cp_8 hA (j := i) (by omega)) rfl ?_
    refine z_top (s9.trans (by rw [e])) ?_
    refine z_tabIn (tgt := 56) d_Se_carry_4 (by decide +kernel) (by decide +kernel) (show _ = some 52 by decide +kernel) (by decide) ?_
    refine z_aload_n d_Se_carry_56 rfl ?_
    refine z_aload_n d_Se_carry_57 rfl ?_
    refine z_get fa_Se_111 d_Se_carry_58 (cp_8 hA (j := i) (by omega)) rfl ?_
    refine z_top s10 ?_
    refine z_cVr (c_name l E hA _ _ _ (b) (ne X 10 i) (by omega) (by omega)) cb_Bo_name ci_Bo_name ln_Se_65 (cp_19 hA (j := b) (by omega)) rfl rfl (zlq rfl) rfl (zlq rfl) (zlq rfl) d_Se_carry_61 ?_
    refine z_rf ?_
    refine z_iconst d_Se_carry_64 ic_1 ?_
    refine z_aload_n d_Se_carry_65 rfl ?_
    refine z_get fa_Se_114 d_Se_carry_66 (cp_8 hA (j := i) (by omega)) rfl ?_
    refine z_top r15.1 ?_
    refine z_ishl d_Se_carry_69 ?_
    refine z_cVv (c_add22 l E hA _ _ _ (6 * b + ne X 10 i) (by omega) ((nI 1 <<< (nI (ne X 15 i) &&& 31)))) cb_Ce_add ci_Ce_add ln_Se_117 (cp_22 hA (j := 6 * b + ne X 10 i) (by omega)) rfl rfl (zlq rfl) rfl (zlq rfl) (zlq rfl) d_Se_carry_70 ?_
    refine z_goto (tgt := 552) d_Se_carry_73 (by decide) ?_
    exact z_vret rfl d_Se_carry_552 (zlq rfl) (zlq rfl) (⟨rfl, by first | (rw [cCar_0 e]; done) | (rw [cCar_0 e]; rfl)⟩)
  · have q6 := l11b (by omega) (by omega)
    refine z_aload_n d_Se_carry_0 rfl ?_
    refine z_get fa_Se_108 d_Se_carry_1 (cp_8 hA (j := i) (by omega)) rfl ?_
    refine z_top (s9.trans (by rw [e])) ?_
    refine z_tabIn (tgt := 76) d_Se_carry_4 (by decide +kernel) (by decide +kernel) (show _ = some 72 by decide +kernel) (by decide) ?_
    refine z_aload_n d_Se_carry_76 rfl ?_
    refine z_aload_n d_Se_carry_77 rfl ?_
    refine z_get fa_Se_111 d_Se_carry_78 (cp_8 hA (j := i) (by omega)) rfl ?_
    refine z_top s10 ?_
    refine z_cVr (c_name l E hA _ _ _ (b) (ne X 10 i) (by omega) (by omega)) cb_Bo_name ci_Bo_name ln_Se_65 (cp_19 hA (j := b) (by omega)) rfl rfl (zlq rfl) rfl (zlq rfl) (zlq rfl) d_Se_carry_81 ?_
    refine z_rf ?_
    refine z_iload_n d_Se_carry_84 rfl ?_
    refine z_if_eq (tgt := 102) d_Se_carry_85 (by decide) (fun c85 => ?_) (fun c85 => ?_)
    · have c85n := bI_e.mp c85
      refine z_aload_n d_Se_carry_102 rfl ?_
      refine z_aload_n d_Se_carry_103 rfl ?_
      refine z_get fa_Se_120 d_Se_carry_104 (cp_8 hA (j := i) (by omega)) rfl ?_
      refine z_top s11 ?_
      refine z_cVr (c_name l E hA _ _ _ (b) (ne X 11 i) (by omega) (by omega)) cb_Bo_name ci_Bo_name ln_Se_65 (cp_19 hA (j := b) (by omega)) rfl rfl (zlq rfl) rfl (zlq rfl) (zlq rfl) d_Se_carry_107 ?_
      refine z_rf ?_
      refine z_get fa_Se_84 d_Se_carry_110 (cp_22 hA (j := 6 * b + ne X 11 i) (by omega)) rfl ?_
      refine z_cVv (c_add22 l E hA _ _ _ (6 * b + ne X 10 i) (by omega) (S 50 (6 * b + ne X 11 i))) cb_Ce_add ci_Ce_add ln_Se_117 (cp_22 hA (j := 6 * b + ne X 10 i) (by omega)) rfl rfl (zlq rfl) rfl (zlq rfl) (zlq rfl) d_Se_carry_113 ?_
      refine z_goto (tgt := 552) d_Se_carry_116 (by decide) ?_
      exact z_vret rfl d_Se_carry_552 (zlq rfl) (zlq rfl) (⟨rfl, by first | (rw [cCar_1 e, if_neg (zbf c85n)]; done) | (rw [cCar_1 e, if_neg (zbf c85n)]; rfl)⟩)
    · have c85n := bI_n.mp c85
      refine z_aload_n d_Se_carry_88 rfl ?_
      refine z_aload_n d_Se_carry_89 rfl ?_
      refine z_get fa_Se_120 d_Se_carry_90 (cp_8 hA (j := i) (by omega)) rfl ?_
      refine z_top s11 ?_
      refine z_cVr (c_name l E hA _ _ _ (b) (ne X 11 i) (by omega) (by omega)) cb_Bo_name ci_Bo_name ln_Se_65 (cp_19 hA (j := b) (by omega)) rfl rfl (zlq rfl) rfl (zlq rfl) (zlq rfl) d_Se_carry_93 ?_
      refine z_rf ?_
      refine z_get fa_Se_123 d_Se_carry_96 (cp_22 hA (j := 6 * b + ne X 11 i) (by omega)) rfl ?_
      refine z_goto (tgt := 113) d_Se_carry_99 (by decide) ?_
      refine z_cVv (c_add22 l E hA _ _ _ (6 * b + ne X 10 i) (by omega) (S 20 (6 * b + ne X 11 i))) cb_Ce_add ci_Ce_add ln_Se_117 (cp_22 hA (j := 6 * b + ne X 10 i) (by omega)) rfl rfl (zlq rfl) rfl (zlq rfl) (zlq rfl) d_Se_carry_113 ?_
      refine z_goto (tgt := 552) d_Se_carry_116 (by decide) ?_
      exact z_vret rfl d_Se_carry_552 (zlq rfl) (zlq rfl) (⟨rfl, by first | (rw [cCar_1 e, if_pos c85n]; done) | (rw [cCar_1 e, if_pos c85n]; rfl)⟩)
  · have q6 := l11b (by omega) (by omega)
    have r12 := s12 (by omega)
    have r12b := r12.2
    refine z_aload_n d_Se_carry_0 rfl ?_
    refine z_get fa_Se_108 d_Se_carry_1 (cp_8 hA (j := i) (by omega)) rfl ?_
    refine z_top (s9.trans (by rw [e])) ?_
    refine z_tabIn (tgt := 119) d_Se_carry_4 (by decide +kernel) (by decide +kernel) (show _ = some 115 by decide +kernel) (by decide) ?_
    refine z_iconst d_Se_carry_119 ic_0 ?_
    refine z_istore d_Se_carry_120 (zlt rfl) ?_
    refine zlp (Gh := fun (kz : Nat) (Z : zSt) => zG (zcx l E b_Se_carry "PointsToRounds$Sets" 5 (none) false rm_Se_carry (cp E A K X S R) sz (zPv (cp E A K X (cCar X i b al S) R))) 0 0 122 [some (.ref (A (9, 0))), some (.ref (A (8, i))), some (.ref (A (19, b))), some (.int (bI (al))), some (.int (nI (kz)))] [] (cp E A K X Z R)) (f := fun o S => cL2 X i b o S) (N := cn X 16) (x0 := S) ?_ ?_
    rotate_left
    · intro o ho iho
      generalize zit _ o _ = Zo at iho ⊢
      show zG (zcx l E b_Se_carry "PointsToRounds$Sets" 5 (none) false rm_Se_carry (cp E A K X S R) sz (zPv (cp E A K X (cCar X i b al S) R))) 0 0 122 [some (.ref (A (9, 0))), some (.ref (A (8, i))), some (.ref (A (19, b))), some (.int (bI (al))), some (.int (nI (o)))] [] (cp E A K X Zo R)
      try dsimp only at iho
      refine z_iload d_Se_carry_122 rfl ?_
      refine z_aload_n d_Se_carry_124 rfl ?_
      refine z_get fa_Se_3 d_Se_carry_125 (cp_9 hA) rfl ?_
      refine z_get fa_Se_91 d_Se_carry_128 (cp_0 hA) rfl ?_
      refine z_top h16 ?_
      refine z_icmp_ge (tgt := 194) d_Se_carry_131 (by decide) (fun c131 => absurd c131 (nI_ge ho (by omega))) (fun c131 => ?_)
      have c131n := (not_congr (nI_leI (by omega) (by omega))).mp c131
      refine z_aload_n d_Se_carry_134 rfl ?_
      refine z_aload_n d_Se_carry_135 rfl ?_
      refine z_aload_n d_Se_carry_136 rfl ?_
      refine z_get fa_Se_120 d_Se_carry_137 (cp_8 hA (j := i) (by omega)) rfl ?_
      refine z_top s11 ?_
      refine z_iload d_Se_carry_140 rfl ?_
      refine z_cVi (c_Se_has l E hA _ _ _ (b) (ne X 11 i) (o) (by omega) (by omega)) cb_Se_has ci_Se_has ln_Se_126 (cp_9 hA) rfl rfl (zlq rfl) rfl (zlq rfl) (zlq rfl) d_Se_carry_142 ?_
      refine z_if_eq (tgt := 188) d_Se_carry_145 (by decide) (fun c145 => ?_) (fun c145 => ?_)
      · have c145n := bI_e.mp c145
        refine z_iinc (v := nI (o + 1)) d_Se_carry_188 (zlt rfl) rfl (zinc _) ?_
        refine z_goto (tgt := 122) d_Se_carry_191 (by decide) ?_
        unfold cL2 at iho
        rw [if_neg (zbf c145n)] at iho
        exact iho
      · have c145n := bI_n.mp c145
        refine z_aload_n d_Se_carry_148 rfl ?_
        refine z_get fa_Se_3 d_Se_carry_149 (cp_9 hA) rfl ?_
        refine z_iload d_Se_carry_152 rfl ?_
        refine z_aload_n d_Se_carry_154 rfl ?_
        refine z_get fa_Se_130 d_Se_carry_155 (cp_8 hA (j := i) (by omega)) rfl ?_
        refine z_top r12.1 ?_
        refine z_cVi (c_P_hasField l E hA _ _ _ hX (o) (ne X 12 i) (by omega) (by omega)) cb_P_hasField ci_P_hasField ln_Se_133 (cp_0 hA) rfl rfl (zlq rfl) rfl (zlq rfl) (zlq rfl) d_Se_carry_158 ?_
        refine z_if_eq (tgt := 188) d_Se_carry_161 (by decide) (fun c161 => ?_) (fun c161 => ?_)
        · have c161n := bI_e.mp c161
          refine z_iinc (v := nI (o + 1)) d_Se_carry_188 (zlt rfl) rfl (zinc _) ?_
          refine z_goto (tgt := 122) d_Se_carry_191 (by decide) ?_
          unfold cL2 at iho
          rw [if_pos c145n, if_neg (zbf c161n)] at iho
          exact iho
        · have c161n := bI_n.mp c161
          refine z_aload_n d_Se_carry_164 rfl ?_
          refine z_aload_n d_Se_carry_165 rfl ?_
          refine z_get fa_Se_111 d_Se_carry_166 (cp_8 hA (j := i) (by omega)) rfl ?_
          refine z_top s10 ?_
          refine z_cVr (c_name l E hA _ _ _ (b) (ne X 10 i) (by omega) (by omega)) cb_Bo_name ci_Bo_name ln_Se_65 (cp_19 hA (j := b) (by omega)) rfl rfl (zlq rfl) rfl (zlq rfl) (zlq rfl) d_Se_carry_169 ?_
          refine z_rf ?_
          refine z_aload_n d_Se_carry_172 rfl ?_
          refine z_iload d_Se_carry_173 rfl ?_
          refine z_aload_n d_Se_carry_175 rfl ?_
          refine z_get fa_Se_130 d_Se_carry_176 (cp_8 hA (j := i) (by omega)) rfl ?_
          refine z_top r12.1 ?_
          refine z_cVr (c_Se_field l E hA _ _ _ (o) (ne X 12 i) (by omega) (by omega)) cb_Se_field ci_Se_field ln_Se_137 (cp_9 hA) rfl rfl (zlq rfl) rfl (zlq rfl) (zlq rfl) d_Se_carry_179 ?_
          refine z_rf ?_
          refine z_get fa_Se_123 d_Se_carry_182 (cp_23 hA (j := 8 * (o) + (ne X 12 i)) (by omega)) rfl ?_
          refine z_cVv (c_add22 l E hA _ _ _ (6 * b + ne X 10 i) (by omega) (Zo 22 (8 * (o) + (ne X 12 i)))) cb_Ce_add ci_Ce_add ln_Se_117 (cp_22 hA (j := 6 * b + ne X 10 i) (by omega)) rfl rfl (zlq rfl) rfl (zlq rfl) (zlq rfl) d_Se_carry_185 ?_
          refine z_iinc (v := nI (o + 1)) d_Se_carry_188 (zlt rfl) rfl (zinc _) ?_
          refine z_goto (tgt := 122) d_Se_carry_191 (by decide) ?_
          unfold cL2 at iho
          rw [if_pos c145n, if_pos c161n] at iho
          exact iho
    show zG (zcx l E b_Se_carry "PointsToRounds$Sets" 5 (none) false rm_Se_carry (cp E A K X S R) sz (zPv (cp E A K X (cCar X i b al S) R))) 0 0 122 [some (.ref (A (9, 0))), some (.ref (A (8, i))), some (.ref (A (19, b))), some (.int (bI (al))), some (.int (nI (cn X 16)))] [] (cp E A K X (zit (fun o S => cL2 X i b o S) (cn X 16) S) R)
    refine z_iload d_Se_carry_122 rfl ?_
    refine z_aload_n d_Se_carry_124 rfl ?_
    refine z_get fa_Se_3 d_Se_carry_125 (cp_9 hA) rfl ?_
    refine z_get fa_Se_91 d_Se_carry_128 (cp_0 hA) rfl ?_
    refine z_top h16 ?_
    refine z_icmp_ge (tgt := 194) d_Se_carry_131 (by decide) (fun c131 => ?_) (fun c131 => absurd (nI_le (Nat.le_refl _) (by omega)) c131)
    have c131n := (nI_leI (by omega) (by omega)).mp c131
    refine z_goto (tgt := 552) d_Se_carry_194 (by decide) ?_
    exact z_vret rfl d_Se_carry_552 (zlq rfl) (zlq rfl) (⟨rfl, by first | (rw [cCar_2 e]; done) | (rw [cCar_2 e]; rfl)⟩)
  · have q6 := l11b (by omega) (by omega)
    have r12 := s12 (by omega)
    have r12b := r12.2
    refine z_aload_n d_Se_carry_0 rfl ?_
    refine z_get fa_Se_108 d_Se_carry_1 (cp_8 hA (j := i) (by omega)) rfl ?_
    refine z_top (s9.trans (by rw [e])) ?_
    refine z_tabIn (tgt := 197) d_Se_carry_4 (by decide +kernel) (by decide +kernel) (show _ = some 193 by decide +kernel) (by decide) ?_
    refine z_iconst d_Se_carry_197 ic_0 ?_
    refine z_istore d_Se_carry_198 (zlt rfl) ?_
    refine zlp (Gh := fun (kz : Nat) (Z : zSt) => zG (zcx l E b_Se_carry "PointsToRounds$Sets" 5 (none) false rm_Se_carry (cp E A K X S R) sz (zPv (cp E A K X (cCar X i b al S) R))) 0 0 200 [some (.ref (A (9, 0))), some (.ref (A (8, i))), some (.ref (A (19, b))), some (.int (bI (al))), some (.int (nI (kz)))] [] (cp E A K X Z R)) (f := fun o S => cL3 X i b o S) (N := cn X 16) (x0 := S) ?_ ?_
    rotate_left
    · intro o ho iho
      generalize zit _ o _ = Zo at iho ⊢
      show zG (zcx l E b_Se_carry "PointsToRounds$Sets" 5 (none) false rm_Se_carry (cp E A K X S R) sz (zPv (cp E A K X (cCar X i b al S) R))) 0 0 200 [some (.ref (A (9, 0))), some (.ref (A (8, i))), some (.ref (A (19, b))), some (.int (bI (al))), some (.int (nI (o)))] [] (cp E A K X Zo R)
      try dsimp only at iho
      refine z_iload d_Se_carry_200 rfl ?_
      refine z_aload_n d_Se_carry_202 rfl ?_
      refine z_get fa_Se_3 d_Se_carry_203 (cp_9 hA) rfl ?_
      refine z_get fa_Se_91 d_Se_carry_206 (cp_0 hA) rfl ?_
      refine z_top h16 ?_
      refine z_icmp_ge (tgt := 272) d_Se_carry_209 (by decide) (fun c209 => absurd c209 (nI_ge ho (by omega))) (fun c209 => ?_)
      have c209n := (not_congr (nI_leI (by omega) (by omega))).mp c209
      refine z_aload_n d_Se_carry_212 rfl ?_
      refine z_aload_n d_Se_carry_213 rfl ?_
      refine z_aload_n d_Se_carry_214 rfl ?_
      refine z_get fa_Se_111 d_Se_carry_215 (cp_8 hA (j := i) (by omega)) rfl ?_
      refine z_top s10 ?_
      refine z_iload d_Se_carry_218 rfl ?_
      refine z_cVi (c_Se_has l E hA _ _ _ (b) (ne X 10 i) (o) (by omega) (by omega)) cb_Se_has ci_Se_has ln_Se_126 (cp_9 hA) rfl rfl (zlq rfl) rfl (zlq rfl) (zlq rfl) d_Se_carry_220 ?_
      refine z_if_eq (tgt := 266) d_Se_carry_223 (by decide) (fun c223 => ?_) (fun c223 => ?_)
      · have c223n := bI_e.mp c223
        refine z_iinc (v := nI (o + 1)) d_Se_carry_266 (zlt rfl) rfl (zinc _) ?_
        refine z_goto (tgt := 200) d_Se_carry_269 (by decide) ?_
        unfold cL3 at iho
        rw [if_neg (zbf c223n)] at iho
        exact iho
      · have c223n := bI_n.mp c223
        refine z_aload_n d_Se_carry_226 rfl ?_
        refine z_get fa_Se_3 d_Se_carry_227 (cp_9 hA) rfl ?_
        refine z_iload d_Se_carry_230 rfl ?_
        refine z_aload_n d_Se_carry_232 rfl ?_
        refine z_get fa_Se_130 d_Se_carry_233 (cp_8 hA (j := i) (by omega)) rfl ?_
        refine z_top r12.1 ?_
        refine z_cVi (c_P_hasField l E hA _ _ _ hX (o) (ne X 12 i) (by omega) (by omega)) cb_P_hasField ci_P_hasField ln_Se_133 (cp_0 hA) rfl rfl (zlq rfl) rfl (zlq rfl) (zlq rfl) d_Se_carry_236 ?_
        refine z_if_eq (tgt := 266) d_Se_carry_239 (by decide) (fun c239 => ?_) (fun c239 => ?_)
        · have c239n := bI_e.mp c239
          refine z_iinc (v := nI (o + 1)) d_Se_carry_266 (zlt rfl) rfl (zinc _) ?_
          refine z_goto (tgt := 200) d_Se_carry_269 (by decide) ?_
          unfold cL3 at iho
          rw [if_pos c223n, if_neg (zbf c239n)] at iho
          exact iho
        · have c239n := bI_n.mp c239
          refine z_aload_n d_Se_carry_242 rfl ?_
          refine z_iload d_Se_carry_243 rfl ?_
          refine z_aload_n d_Se_carry_245 rfl ?_
          refine z_get fa_Se_130 d_Se_carry_246 (cp_8 hA (j := i) (by omega)) rfl ?_
          refine z_top r12.1 ?_
          refine z_cVr (c_Se_field l E hA _ _ _ (o) (ne X 12 i) (by omega) (by omega)) cb_Se_field ci_Se_field ln_Se_137 (cp_9 hA) rfl rfl (zlq rfl) rfl (zlq rfl) (zlq rfl) d_Se_carry_249 ?_
          refine z_rf ?_
          refine z_aload_n d_Se_carry_252 rfl ?_
          refine z_aload_n d_Se_carry_253 rfl ?_
          refine z_get fa_Se_120 d_Se_carry_254 (cp_8 hA (j := i) (by omega)) rfl ?_
          refine z_top s11 ?_
          refine z_cVr (c_name l E hA _ _ _ (b) (ne X 11 i) (by omega) (by omega)) cb_Bo_name ci_Bo_name ln_Se_65 (cp_19 hA (j := b) (by omega)) rfl rfl (zlq rfl) rfl (zlq rfl) (zlq rfl) d_Se_carry_257 ?_
          refine z_rf ?_
          refine z_get fa_Se_123 d_Se_carry_260 (cp_22 hA (j := 6 * b + ne X 11 i) (by omega)) rfl ?_
          refine z_cVv (c_add23 l E hA _ _ _ (8 * (o) + (ne X 12 i)) (by omega) (Zo 20 (6 * b + ne X 11 i))) cb_Ce_add ci_Ce_add ln_Se_117 (cp_23 hA (j := 8 * (o) + (ne X 12 i)) (by omega)) rfl rfl (zlq rfl) rfl (zlq rfl) (zlq rfl) d_Se_carry_263 ?_
          refine z_iinc (v := nI (o + 1)) d_Se_carry_266 (zlt rfl) rfl (zinc _) ?_
          refine z_goto (tgt := 200) d_Se_carry_269 (by decide) ?_
          unfold cL3 at iho
          rw [if_pos c223n, if_pos c239n] at iho
          exact iho
    show zG (zcx l E b_Se_carry "PointsToRounds$Sets" 5 (none) false rm_Se_carry (cp E A K X S R) sz (zPv (cp E A K X (cCar X i b al S) R))) 0 0 200 [some (.ref (A (9, 0))), some (.ref (A (8, i))), some (.ref (A (19, b))), some (.int (bI (al))), some (.int (nI (cn X 16)))] [] (cp E A K X (zit (fun o S => cL3 X i b o S) (cn X 16) S) R)
    refine z_iload d_Se_carry_200 rfl ?_
    refine z_aload_n d_Se_carry_202 rfl ?_
    refine z_get fa_Se_3 d_Se_carry_203 (cp_9 hA) rfl ?_
    refine z_get fa_Se_91 d_Se_carry_206 (cp_0 hA) rfl ?_
    refine z_top h16 ?_
    refine z_icmp_ge (tgt := 272) d_Se_carry_209 (by decide) (fun c209 => ?_) (fun c209 => absurd (nI_le (Nat.le_refl _) (by omega)) c209)
    have c209n := (nI_leI (by omega) (by omega)).mp c209
    refine z_goto (tgt := 552) d_Se_carry_272 (by decide) ?_
    exact z_vret rfl d_Se_carry_552 (zlq rfl) (zlq rfl) (⟨rfl, by first | (rw [cCar_3 e]; done) | (rw [cCar_3 e]; rfl)⟩)
  · have q6 := l11b (by omega) (by omega)
    refine z_aload_n d_Se_carry_0 rfl ?_
    refine z_get fa_Se_108 d_Se_carry_1 (cp_8 hA (j := i) (by omega)) rfl ?_
    refine z_top (s9.trans (by rw [e])) ?_
    refine z_tabIn (tgt := 275) d_Se_carry_4 (by decide +kernel) (by decide +kernel) (show _ = some 271 by decide +kernel) (by decide) ?_
    refine z_aload_n d_Se_carry_275 rfl ?_
    refine z_aload_n d_Se_carry_276 rfl ?_
    refine z_get fa_Se_111 d_Se_carry_277 (cp_8 hA (j := i) (by omega)) rfl ?_
    refine z_top s10 ?_
    refine z_cVr (c_name l E hA _ _ _ (b) (ne X 10 i) (by omega) (by omega)) cb_Bo_name ci_Bo_name ln_Se_65 (cp_19 hA (j := b) (by omega)) rfl rfl (zlq rfl) rfl (zlq rfl) (zlq rfl) d_Se_carry_280 ?_
    refine z_rf ?_
    refine z_aload_n d_Se_carry_283 rfl ?_
    refine z_get fa_Se_3 d_Se_carry_284 (cp_9 hA) rfl ?_
    refine z_aload_n d_Se_carry_287 rfl ?_
    refine z_aload_n d_Se_carry_288 rfl ?_
    refine z_get fa_Se_120 d_Se_carry_289 (cp_8 hA (j := i) (by omega)) rfl ?_
    refine z_top s11 ?_
    refine z_cVr (c_name l E hA _ _ _ (b) (ne X 11 i) (by omega) (by omega)) cb_Bo_name ci_Bo_name ln_Se_65 (cp_19 hA (j := b) (by omega)) rfl rfl (zlq rfl) rfl (zlq rfl) (zlq rfl) d_Se_carry_292 ?_
    refine z_rf ?_
    refine z_get fa_Se_123 d_Se_carry_295 (cp_22 hA (j := 6 * b + ne X 11 i) (by omega)) rfl ?_
    refine z_aload_n d_Se_carry_298 rfl ?_
    refine z_get fa_Se_130 d_Se_carry_299 (cp_8 hA (j := i) (by omega)) rfl ?_
    refine z_cVi (c_P_under l E hA _ _ _ hX (S 20 (6 * b + ne X 11 i)) (X 12 (i))) cb_P_under ci_P_under ln_Se_141 (cp_0 hA) rfl rfl (zlq rfl) rfl (zlq rfl) (zlq rfl) d_Se_carry_302 ?_
    refine z_cVv (c_add22 l E hA _ _ _ (6 * b + ne X 10 i) (by omega) (cUnd X (S 20 (6 * b + ne X 11 i)) (X 12 (i)))) cb_Ce_add ci_Ce_add ln_Se_117 (cp_22 hA (j := 6 * b + ne X 10 i) (by omega)) rfl rfl (zlq rfl) rfl (zlq rfl) (zlq rfl) d_Se_carry_305 ?_
    refine z_goto (tgt := 552) d_Se_carry_308 (by decide) ?_
    exact z_vret rfl d_Se_carry_552 (zlq rfl) (zlq rfl) (⟨rfl, by first | (rw [cCar_4 e]; done) | (rw [cCar_4 e]; rfl)⟩)
  · have q5 := l11a e
    refine z_aload_n d_Se_carry_0 rfl ?_
    refine z_get fa_Se_108 d_Se_carry_1 (cp_8 hA (j := i) (by omega)) rfl ?_
    refine z_top (s9.trans (by rw [e])) ?_
    refine z_tabIn (tgt := 311) d_Se_carry_4 (by decide +kernel) (by decide +kernel) (show _ = some 307 by decide +kernel) (by decide) ?_
    refine z_aload_n d_Se_carry_311 rfl ?_
    refine z_aload_n d_Se_carry_312 rfl ?_
    refine z_get fa_Se_111 d_Se_carry_313 (cp_8 hA (j := i) (by omega)) rfl ?_
    refine z_top s10 ?_
    refine z_cVr (c_name l E hA _ _ _ (b) (ne X 10 i) (by omega) (by omega)) cb_Bo_name ci_Bo_name ln_Se_65 (cp_19 hA (j := b) (by omega)) rfl rfl (zlq rfl) rfl (zlq rfl) (zlq rfl) d_Se_carry_316 ?_
    refine z_rf ?_
    refine z_aload_n d_Se_carry_319 rfl ?_
    refine z_get fa_Se_28 d_Se_carry_320 (cp_9 hA) rfl ?_
    refine z_aload_n d_Se_carry_323 rfl ?_
    refine z_get fa_Se_120 d_Se_carry_324 (cp_8 hA (j := i) (by omega)) rfl ?_
    refine z_top s11 ?_
    refine z_cFr (c_get11_3 l E hA _ _ _ (ne X 11 i) (by omega)) cb_AL_get cf_get k_475 (cp_11 hA (j := 3) (by omega)) rfl rfl (zlq rfl) rfl (zlq rfl) (zlq rfl) d_Se_carry_327 ?_
    refine z_rf ?_
    refine z_cast (r := (R_Ce, F_Ce, 3)) rfl k_230 k_1143 (cp_25 hA (j := ne X 11 i) (by omega)) d_Se_carry_332 ?_
    refine z_get fa_Se_123 d_Se_carry_335 (cp_25 hA (j := ne X 11 i) (by omega)) rfl ?_
    refine z_cVv (c_add22 l E hA _ _ _ (6 * b + ne X 10 i) (by omega) (S 26 (ne X 11 i))) cb_Ce_add ci_Ce_add ln_Se_117 (cp_22 hA (j := 6 * b + ne X 10 i) (by omega)) rfl rfl (zlq rfl) rfl (zlq rfl) (zlq rfl) d_Se_carry_338 ?_
    refine z_goto (tgt := 552) d_Se_carry_341 (by decide) ?_
    exact z_vret rfl d_Se_carry_552 (zlq rfl) (zlq rfl) (⟨rfl, by first | (rw [cCar_5 e]; done) | (rw [cCar_5 e]; rfl)⟩)
  · have q6 := l11b (by omega) (by omega)
    have q4 := l10a e
    refine z_aload_n d_Se_carry_0 rfl ?_
    refine z_get fa_Se_108 d_Se_carry_1 (cp_8 hA (j := i) (by omega)) rfl ?_
    refine z_top (s9.trans (by rw [e])) ?_
    refine z_tabIn (tgt := 344) d_Se_carry_4 (by decide +kernel) (by decide +kernel) (show _ = some 340 by decide +kernel) (by decide) ?_
    refine z_aload_n d_Se_carry_344 rfl ?_
    refine z_get fa_Se_28 d_Se_carry_345 (cp_9 hA) rfl ?_
    refine z_aload_n d_Se_carry_348 rfl ?_
    refine z_get fa_Se_111 d_Se_carry_349 (cp_8 hA (j := i) (by omega)) rfl ?_
    refine z_top s10 ?_
    refine z_cFr (c_get11_3 l E hA _ _ _ (ne X 10 i) (by omega)) cb_AL_get cf_get k_475 (cp_11 hA (j := 3) (by omega)) rfl rfl (zlq rfl) rfl (zlq rfl) (zlq rfl) d_Se_carry_352 ?_
    refine z_rf ?_
    refine z_cast (r := (R_Ce, F_Ce, 3)) rfl k_230 k_1143 (cp_25 hA (j := ne X 10 i) (by omega)) d_Se_carry_357 ?_
    refine z_aload_n d_Se_carry_360 rfl ?_
    refine z_aload_n d_Se_carry_361 rfl ?_
    refine z_get fa_Se_120 d_Se_carry_362 (cp_8 hA (j := i) (by omega)) rfl ?_
    refine z_top s11 ?_
    refine z_cVr (c_name l E hA _ _ _ (b) (ne X 11 i) (by omega) (by omega)) cb_Bo_name ci_Bo_name ln_Se_65 (cp_19 hA (j := b) (by omega)) rfl rfl (zlq rfl) rfl (zlq rfl) (zlq rfl) d_Se_carry_365 ?_
    refine z_rf ?_
    refine z_get fa_Se_123 d_Se_carry_368 (cp_22 hA (j := 6 * b + ne X 11 i) (by omega)) rfl ?_
    refine z_cVv (c_add25 l E hA _ _ _ (ne X 10 i) (by omega) (S 20 (6 * b + ne X 11 i))) cb_Ce_add ci_Ce_add ln_Se_117 (cp_25 hA (j := ne X 10 i) (by omega)) rfl rfl (zlq rfl) rfl (zlq rfl) (zlq rfl) d_Se_carry_371 ?_
    refine z_goto (tgt := 552) d_Se_carry_374 (by decide) ?_
    exact z_vret rfl d_Se_carry_552 (zlq rfl) (zlq rfl) (⟨rfl, by first | (rw [cCar_6 e]; done) | (rw [cCar_6 e]; rfl)⟩)
  · have q6 := l11b (by omega) (by omega)
    refine z_aload_n d_Se_carry_0 rfl ?_
    refine z_get fa_Se_108 d_Se_carry_1 (cp_8 hA (j := i) (by omega)) rfl ?_
    refine z_top (s9.trans (by rw [e])) ?_
    refine z_tabIn (tgt := 377) d_Se_carry_4 (by decide +kernel) (by decide +kernel) (show _ = some 373 by decide +kernel) (by decide) ?_
    refine z_iconst d_Se_carry_377 ic_0 ?_
    refine z_istore d_Se_carry_378 (zlt rfl) ?_
    refine zlp (Gh := fun (kz : Nat) (Z : zSt) => zG (zcx l E b_Se_carry "PointsToRounds$Sets" 5 (none) false rm_Se_carry (cp E A K X S R) sz (zPv (cp E A K X (cCar X i b al S) R))) 0 0 380 [some (.ref (A (9, 0))), some (.ref (A (8, i))), some (.ref (A (19, b))), some (.int (bI (al))), some (.int (nI (kz)))] [] (cp E A K X Z R)) (f := fun o S => cL7 X i b o S) (N := cn X 16) (x0 := S) ?_ ?_
    rotate_left
    · intro o ho iho
      generalize zit _ o _ = Zo at iho ⊢
      show zG (zcx l E b_Se_carry "PointsToRounds$Sets" 5 (none) false rm_Se_carry (cp E A K X S R) sz (zPv (cp E A K X (cCar X i b al S) R))) 0 0 380 [some (.ref (A (9, 0))), some (.ref (A (8, i))), some (.ref (A (19, b))), some (.int (bI (al))), some (.int (nI (o)))] [] (cp E A K X Zo R)
      try dsimp only at iho
      refine z_iload d_Se_carry_380 rfl ?_
      refine z_aload_n d_Se_carry_382 rfl ?_
      refine z_get fa_Se_3 d_Se_carry_383 (cp_9 hA) rfl ?_
      refine z_get fa_Se_91 d_Se_carry_386 (cp_0 hA) rfl ?_
      refine z_top h16 ?_
      refine z_icmp_ge (tgt := 420) d_Se_carry_389 (by decide) (fun c389 => absurd c389 (nI_ge ho (by omega))) (fun c389 => ?_)
      have c389n := (not_congr (nI_leI (by omega) (by omega))).mp c389
      refine z_aload_n d_Se_carry_392 rfl ?_
      refine z_aload_n d_Se_carry_393 rfl ?_
      refine z_aload_n d_Se_carry_394 rfl ?_
      refine z_get fa_Se_120 d_Se_carry_395 (cp_8 hA (j := i) (by omega)) rfl ?_
      refine z_top s11 ?_
      refine z_iload d_Se_carry_398 rfl ?_
      refine z_cVi (c_Se_has l E hA _ _ _ (b) (ne X 11 i) (o) (by omega) (by omega)) cb_Se_has ci_Se_has ln_Se_126 (cp_9 hA) rfl rfl (zlq rfl) rfl (zlq rfl) (zlq rfl) d_Se_carry_400 ?_
      refine z_if_eq (tgt := 414) d_Se_carry_403 (by decide) (fun c403 => ?_) (fun c403 => ?_)
      · have c403n := bI_e.mp c403
        refine z_iinc (v := nI (o + 1)) d_Se_carry_414 (zlt rfl) rfl (zinc _) ?_
        refine z_goto (tgt := 380) d_Se_carry_417 (by decide) ?_
        unfold cL7 at iho
        rw [if_neg (zbf c403n)] at iho
        exact iho
      · have c403n := bI_n.mp c403
        refine z_aload_n d_Se_carry_406 rfl ?_
        refine z_aload_n d_Se_carry_407 rfl ?_
        refine z_aload_n d_Se_carry_408 rfl ?_
        refine z_iload d_Se_carry_409 rfl ?_
        refine z_cVv (c_Se_call l E hA _ _ _ hX i hi hi8 e b hb (o) (by omega)) cb_Se_call ci_Se_call ln_Se_145 (cp_9 hA) rfl rfl (zlq rfl) rfl (zlq rfl) (zlq rfl) d_Se_carry_411 ?_
        refine z_iinc (v := nI (o + 1)) d_Se_carry_414 (zlt rfl) rfl (zinc _) ?_
        refine z_goto (tgt := 380) d_Se_carry_417 (by decide) ?_
        unfold cL7 at iho
        rw [if_pos c403n] at iho
        exact iho
    show zG (zcx l E b_Se_carry "PointsToRounds$Sets" 5 (none) false rm_Se_carry (cp E A K X S R) sz (zPv (cp E A K X (cCar X i b al S) R))) 0 0 380 [some (.ref (A (9, 0))), some (.ref (A (8, i))), some (.ref (A (19, b))), some (.int (bI (al))), some (.int (nI (cn X 16)))] [] (cp E A K X (zit (fun o S => cL7 X i b o S) (cn X 16) S) R)
    refine z_iload d_Se_carry_380 rfl ?_
    refine z_aload_n d_Se_carry_382 rfl ?_
    refine z_get fa_Se_3 d_Se_carry_383 (cp_9 hA) rfl ?_
    refine z_get fa_Se_91 d_Se_carry_386 (cp_0 hA) rfl ?_
    refine z_top h16 ?_
    refine z_icmp_ge (tgt := 420) d_Se_carry_389 (by decide) (fun c389 => ?_) (fun c389 => absurd (nI_le (Nat.le_refl _) (by omega)) c389)
    have c389n := (nI_leI (by omega) (by omega)).mp c389
    refine z_goto (tgt := 552) d_Se_carry_420 (by decide) ?_
    exact z_vret rfl d_Se_carry_552 (zlq rfl) (zlq rfl) (⟨rfl, by first | (rw [cCar_7 e]; done) | (rw [cCar_7 e]; rfl)⟩)
  · have q6 := l11b (by omega) (by omega)
    refine z_aload_n d_Se_carry_0 rfl ?_
    refine z_get fa_Se_108 d_Se_carry_1 (cp_8 hA (j := i) (by omega)) rfl ?_
    refine z_top (s9.trans (by rw [e])) ?_
    refine z_tabIn (tgt := 423) d_Se_carry_4 (by decide +kernel) (by decide +kernel) (show _ = some 419 by decide +kernel) (by decide) ?_
    refine z_iconst d_Se_carry_423 ic_0 ?_
    refine z_istore d_Se_carry_424 (zlt rfl) ?_
    refine zlp (Gh := fun (kz : Nat) (Z : zSt) => zG (zcx l E b_Se_carry "PointsToRounds$Sets" 5 (none) false rm_Se_carry (cp E A K X S R) sz (zPv (cp E A K X (cCar X i b al S) R))) 0 0 426 [some (.ref (A (9, 0))), some (.ref (A (8, i))), some (.ref (A (19, b))), some (.int (bI (al))), some (.int (nI (kz)))] [] (cp E A K X Z R)) (f := fun o S => cL8 X i b o S) (N := cn X 16) (x0 := S) ?_ ?_
    rotate_left
    · intro o ho iho
      generalize zit _ o _ = Zo at iho ⊢
      show zG (zcx l E b_Se_carry "PointsToRounds$Sets" 5 (none) false rm_Se_carry (cp E A K X S R) sz (zPv (cp E A K X (cCar X i b al S) R))) 0 0 426 [some (.ref (A (9, 0))), some (.ref (A (8, i))), some (.ref (A (19, b))), some (.int (bI (al))), some (.int (nI (o)))] [] (cp E A K X Zo R)
      try dsimp only at iho
      refine z_iload d_Se_carry_426 rfl ?_
      refine z_aload_n d_Se_carry_428 rfl ?_
      refine z_get fa_Se_3 d_Se_carry_429 (cp_9 hA) rfl ?_
      refine z_get fa_Se_91 d_Se_carry_432 (cp_0 hA) rfl ?_
      refine z_top h16 ?_
      refine z_icmp_ge (tgt := 486) d_Se_carry_435 (by decide) (fun c435 => absurd c435 (nI_ge ho (by omega))) (fun c435 => ?_)
      have c435n := (not_congr (nI_leI (by omega) (by omega))).mp c435
      refine z_aload_n d_Se_carry_438 rfl ?_
      refine z_aload_n d_Se_carry_439 rfl ?_
      refine z_aload_n d_Se_carry_440 rfl ?_
      refine z_get fa_Se_120 d_Se_carry_441 (cp_8 hA (j := i) (by omega)) rfl ?_
      refine z_top s11 ?_
      refine z_iload d_Se_carry_444 rfl ?_
      refine z_cVi (c_Se_has l E hA _ _ _ (b) (ne X 11 i) (o) (by omega) (by omega)) cb_Se_has ci_Se_has ln_Se_126 (cp_9 hA) rfl rfl (zlq rfl) rfl (zlq rfl) (zlq rfl) d_Se_carry_446 ?_
      refine z_if_eq (tgt := 480) d_Se_carry_449 (by decide) (fun c449 => ?_) (fun c449 => ?_)
      · have c449n := bI_e.mp c449
        refine z_iinc (v := nI (o + 1)) d_Se_carry_480 (zlt rfl) rfl (zinc _) ?_
        refine z_goto (tgt := 426) d_Se_carry_483 (by decide) ?_
        unfold cL8 at iho
        rw [if_neg (zbf c449n)] at iho
        exact iho
      · have c449n := bI_n.mp c449
        refine z_aload_n d_Se_carry_452 rfl ?_
        refine z_aload_n d_Se_carry_453 rfl ?_
        refine z_get fa_Se_111 d_Se_carry_454 (cp_8 hA (j := i) (by omega)) rfl ?_
        refine z_top s10 ?_
        refine z_cVr (c_name l E hA _ _ _ (b) (ne X 10 i) (by omega) (by omega)) cb_Bo_name ci_Bo_name ln_Se_65 (cp_19 hA (j := b) (by omega)) rfl rfl (zlq rfl) rfl (zlq rfl) (zlq rfl) d_Se_carry_457 ?_
        refine z_rf ?_
        refine z_aload_n d_Se_carry_460 rfl ?_
        refine z_get fa_Se_25 d_Se_carry_461 (cp_9 hA) rfl ?_
        refine z_iload d_Se_carry_464 rfl ?_
        refine z_cFr (c_get11_2 l E hA _ _ _ (o) (by omega)) cb_AL_get cf_get k_475 (cp_11 hA (j := 2) (by omega)) rfl rfl (zlq rfl) rfl (zlq rfl) (zlq rfl) d_Se_carry_466 ?_
        refine z_rf ?_
        refine z_cast (r := (R_Ce, F_Ce, 3)) rfl k_230 k_1143 (cp_24 hA (j := o) (by omega)) d_Se_carry_471 ?_
        refine z_get fa_Se_123 d_Se_carry_474 (cp_24 hA (j := o) (by omega)) rfl ?_
        refine z_cVv (c_add22 l E hA _ _ _ (6 * b + ne X 10 i) (by omega) (Zo 24 (o))) cb_Ce_add ci_Ce_add ln_Se_117 (cp_22 hA (j := 6 * b + ne X 10 i) (by omega)) rfl rfl (zlq rfl) rfl (zlq rfl) (zlq rfl) d_Se_carry_477 ?_
        refine z_iinc (v := nI (o + 1)) d_Se_carry_480 (zlt rfl) rfl (zinc _) ?_
        refine z_goto (tgt := 426) d_Se_carry_483 (by decide) ?_
        unfold cL8 at iho
        rw [if_pos c449n] at iho
        exact iho
    show zG (zcx l E b_Se_carry "PointsToRounds$Sets" 5 (none) false rm_Se_carry (cp E A K X S R) sz (zPv (cp E A K X (cCar X i b al S) R))) 0 0 426 [some (.ref (A (9, 0))), some (.ref (A (8, i))), some (.ref (A (19, b))), some (.int (bI (al))), some (.int (nI (cn X 16)))] [] (cp E A K X (zit (fun o S => cL8 X i b o S) (cn X 16) S) R)
    refine z_iload d_Se_carry_426 rfl ?_
    refine z_aload_n d_Se_carry_428 rfl ?_
    refine z_get fa_Se_3 d_Se_carry_429 (cp_9 hA) rfl ?_
    refine z_get fa_Se_91 d_Se_carry_432 (cp_0 hA) rfl ?_
    refine z_top h16 ?_
    refine z_icmp_ge (tgt := 486) d_Se_carry_435 (by decide) (fun c435 => ?_) (fun c435 => absurd (nI_le (Nat.le_refl _) (by omega)) c435)
    have c435n := (nI_leI (by omega) (by omega)).mp c435
    refine z_goto (tgt := 552) d_Se_carry_486 (by decide) ?_
    exact z_vret rfl d_Se_carry_552 (zlq rfl) (zlq rfl) (⟨rfl, by first | (rw [cCar_8 e]; done) | (rw [cCar_8 e]; rfl)⟩)
  · have q6 := l11b (by omega) (by omega)
    refine z_aload_n d_Se_carry_0 rfl ?_
    refine z_get fa_Se_108 d_Se_carry_1 (cp_8 hA (j := i) (by omega)) rfl ?_
    refine z_top (s9.trans (by rw [e])) ?_
    refine z_tabOut (tgt := 489) d_Se_carry_4 (by decide +kernel) (by decide) ?_
    refine z_iconst d_Se_carry_489 ic_0 ?_
    refine z_istore d_Se_carry_490 (zlt rfl) ?_
    refine zlp (Gh := fun (kz : Nat) (Z : zSt) => zG (zcx l E b_Se_carry "PointsToRounds$Sets" 5 (none) false rm_Se_carry (cp E A K X S R) sz (zPv (cp E A K X (cCar X i b al S) R))) 0 0 492 [some (.ref (A (9, 0))), some (.ref (A (8, i))), some (.ref (A (19, b))), some (.int (bI (al))), some (.int (nI (kz)))] [] (cp E A K X Z R)) (f := fun o S => cL9 X i b o S) (N := cn X 16) (x0 := S) ?_ ?_
    rotate_left
    · intro o ho iho
      generalize zit _ o _ = Zo at iho ⊢
      show zG (zcx l E b_Se_carry "PointsToRounds$Sets" 5 (none) false rm_Se_carry (cp E A K X S R) sz (zPv (cp E A K X (cCar X i b al S) R))) 0 0 492 [some (.ref (A (9, 0))), some (.ref (A (8, i))), some (.ref (A (19, b))), some (.int (bI (al))), some (.int (nI (o)))] [] (cp E A K X Zo R)
      try dsimp only at iho
      refine z_iload d_Se_carry_492 rfl ?_
      refine z_aload_n d_Se_carry_494 rfl ?_
      refine z_get fa_Se_3 d_Se_carry_495 (cp_9 hA) rfl ?_
      refine z_get fa_Se_91 d_Se_carry_498 (cp_0 hA) rfl ?_
      refine z_top h16 ?_
      refine z_icmp_ge (tgt := 552) d_Se_carry_501 (by decide) (fun c501 => absurd c501 (nI_ge ho (by omega))) (fun c501 => ?_)
      have c501n := (not_congr (nI_leI (by omega) (by omega))).mp c501
      refine z_aload_n d_Se_carry_504 rfl ?_
      refine z_aload_n d_Se_carry_505 rfl ?_
      refine z_aload_n d_Se_carry_506 rfl ?_
      refine z_get fa_Se_111 d_Se_carry_507 (cp_8 hA (j := i) (by omega)) rfl ?_
      refine z_top s10 ?_
      refine z_iload d_Se_carry_510 rfl ?_
      refine z_cVi (c_Se_has l E hA _ _ _ (b) (ne X 10 i) (o) (by omega) (by omega)) cb_Se_has ci_Se_has ln_Se_126 (cp_9 hA) rfl rfl (zlq rfl) rfl (zlq rfl) (zlq rfl) d_Se_carry_512 ?_
      refine z_if_eq (tgt := 546) d_Se_carry_515 (by decide) (fun c515 => ?_) (fun c515 => ?_)
      · have c515n := bI_e.mp c515
        refine z_iinc (v := nI (o + 1)) d_Se_carry_546 (zlt rfl) rfl (zinc _) ?_
        refine z_goto (tgt := 492) d_Se_carry_549 (by decide) ?_
        unfold cL9 at iho
        rw [if_neg (zbf c515n)] at iho
        exact iho
      · have c515n := bI_n.mp c515
        refine z_aload_n d_Se_carry_518 rfl ?_
        refine z_get fa_Se_25 d_Se_carry_519 (cp_9 hA) rfl ?_
        refine z_iload d_Se_carry_522 rfl ?_
        refine z_cFr (c_get11_2 l E hA _ _ _ (o) (by omega)) cb_AL_get cf_get k_475 (cp_11 hA (j := 2) (by omega)) rfl rfl (zlq rfl) rfl (zlq rfl) (zlq rfl) d_Se_carry_524 ?_
        refine z_rf ?_
        refine z_cast (r := (R_Ce, F_Ce, 3)) rfl k_230 k_1143 (cp_24 hA (j := o) (by omega)) d_Se_carry_529 ?_
        refine z_aload_n d_Se_carry_532 rfl ?_
        refine z_aload_n d_Se_carry_533 rfl ?_
        refine z_get fa_Se_120 d_Se_carry_534 (cp_8 hA (j := i) (by omega)) rfl ?_
        refine z_top s11 ?_
        refine z_cVr (c_name l E hA _ _ _ (b) (ne X 11 i) (by omega) (by omega)) cb_Bo_name ci_Bo_name ln_Se_65 (cp_19 hA (j := b) (by omega)) rfl rfl (zlq rfl) rfl (zlq rfl) (zlq rfl) d_Se_carry_537 ?_
        refine z_rf ?_
        refine z_get fa_Se_123 d_Se_carry_540 (cp_22 hA (j := 6 * b + ne X 11 i) (by omega)) rfl ?_
        refine z_cVv (c_add24 l E hA _ _ _ (o) (by omega) (Zo 20 (6 * b + ne X 11 i))) cb_Ce_add ci_Ce_add ln_Se_117 (cp_24 hA (j := o) (by omega)) rfl rfl (zlq rfl) rfl (zlq rfl) (zlq rfl) d_Se_carry_543 ?_
        refine z_iinc (v := nI (o + 1)) d_Se_carry_546 (zlt rfl) rfl (zinc _) ?_
        refine z_goto (tgt := 492) d_Se_carry_549 (by decide) ?_
        unfold cL9 at iho
        rw [if_pos c515n] at iho
        exact iho
    show zG (zcx l E b_Se_carry "PointsToRounds$Sets" 5 (none) false rm_Se_carry (cp E A K X S R) sz (zPv (cp E A K X (cCar X i b al S) R))) 0 0 492 [some (.ref (A (9, 0))), some (.ref (A (8, i))), some (.ref (A (19, b))), some (.int (bI (al))), some (.int (nI (cn X 16)))] [] (cp E A K X (zit (fun o S => cL9 X i b o S) (cn X 16) S) R)
    refine z_iload d_Se_carry_492 rfl ?_
    refine z_aload_n d_Se_carry_494 rfl ?_
    refine z_get fa_Se_3 d_Se_carry_495 (cp_9 hA) rfl ?_
    refine z_get fa_Se_91 d_Se_carry_498 (cp_0 hA) rfl ?_
    refine z_top h16 ?_
    refine z_icmp_ge (tgt := 552) d_Se_carry_501 (by decide) (fun c501 => ?_) (fun c501 => absurd (nI_le (Nat.le_refl _) (by omega)) c501)
    have c501n := (nI_leI (by omega) (by omega)).mp c501
    exact z_vret rfl d_Se_carry_552 (zlq rfl) (zlq rfl) (⟨rfl, by first | (rw [cCar_9 e]; done) | (rw [cCar_9 e]; rfl)⟩)
def cFk (X : zSt) (K : Nat → Nat → Nat) (m c k : Nat) (S : zSt) : zSt := cCar X (K 1000 (100 * m + k)) (21 * m + c) (bz (S 71 (21 * m + c))) S
def cFb (X : zSt) (K : Nat → Nat → Nat) (m c : Nat) (S : zSt) : zSt := if bz (S 70 (21 * m + c)) = true then zit (fun k S => cFk X K m c k S) (K 110 m) S else S
def cFm (X : zSt) (K : Nat → Nat → Nat) (m : Nat) (S : zSt) : zSt := zit (fun c S => cFb X K m c S) 21 S
def cF1 (X : zSt) (K : Nat → Nat → Nat) (S : zSt) : zSt := zit (fun m S => cFm X K m S) (cn X 4) S
def cNx (X : zSt) (K : Nat → Nat → Nat) (S : zSt) : Bool × zSt := cTurn X (va_up (cF1 X K S) 31 (fun _ => cF1 X K S 31 0 + nI 1))
def cLp (X : zSt) (K : Nat → Nat → Nat) : Nat → zSt → zSt
  | 0, S => S
  | f + 1, S => if (cNx X K S).1 = true then cLp X K f (cNx X K S).2 else (cNx X K S).2
def cSp (X : zSt) (K : Nat → Nat → Nat) : Nat → zSt → Prop
  | 0, _ => False
  | f + 1, S => (cNx X K S).1 = false ∨ cSp X K f (cNx X K S).2
def cFz (S : zSt) : zSt := va_up (cClr S) 31 (fun _ => nI 0)
def cF0 (S : zSt) : zSt := cu (cu (cFz S) 70 (21 * 0 + 0) (nI 1)) 71 (21 * 0 + 0) (nI 1)
def cFd (X : zSt) (K : Nat → Nat → Nat) (f : Nat) (S : zSt) : zSt := if cn X 4 = 0 then cFz S else va_up (cLp X K f (cF0 S)) 31 (fun _ => cLp X K f (cF0 S) 31 0 - nI 1)
abbrev rm_Se_find : Room := { frames := 6, cells := 0, slots := 0, locals := 135 }
set_option maxHeartbeats 4000000 in
set_option maxRecDepth 100000 in
theorem c_Se_find (l : Launch) (E : zE) {A : rl → Nat} {K : Nat → Nat → Nat} (hA : cIj K A) (X S R : zSt) (hX : tInv X) (hK : kI K X) (f : Nat) (hF : cn X 4 ≠ 0 → cSp X K f (cF0 S)) : zM l E y_Se_find b_Se_find 7 (none) rm_Se_find [.ref (A (9, 0))] (cp E A K X S R) (zPv (cp E A K X (cFd X K f S) R)) := by
  refine zM_w (by decide +kernel) rfl rfl (fun sz => ?_)
  obtain ⟨⟨⟨h0, b0⟩, ⟨h2, b2⟩, ⟨h4, b4⟩, ⟨h7, b7⟩, ⟨h16, b16⟩⟩, h18, h19, hp, hf0, hs, hst⟩ := id hX
  obtain ⟨⟨k100, k101, k105, k106⟩, -, -, -, hkk⟩ := id hK
  refine z_aload_n d_Se_find_0 rfl ?_
  refine z_cVv (c_Se_clear l E hA _ _ _) cb_Se_clear ci_Se_clear ln_Se_97 (cp_9 hA) rfl rfl (zlq rfl) rfl (zlq rfl) (zlq rfl) d_Se_find_1 ?_
  refine z_aload_n d_Se_find_4 rfl ?_
  refine z_iconst d_Se_find_5 ic_0 ?_
  refine z_put fp_Se_94 d_Se_find_6 (cp_9 hA) (vp_nar_int _) rfl (zlt rfl) ?_
  refine z_eqh (cp_p9_5 hA) ?_
  refine z_aload_n d_Se_find_9 rfl ?_
  refine z_get fa_Se_3 d_Se_find_10 (cp_9 hA) rfl ?_
  refine z_get fa_Se_72 d_Se_find_13 (cp_0 hA) rfl ?_
  refine z_top h4 ?_
  refine z_if_ne (tgt := 20) d_Se_find_16 (by decide) (fun c16 => ?_) (fun c16 => ?_)
  · have c16n := (not_congr (nI_z (by omega))).mp c16
    refine z_aload_n d_Se_find_20 rfl ?_
    refine z_iconst d_Se_find_21 ic_0 ?_
    refine z_iconst d_Se_find_22 ic_0 ?_
    refine z_cVr (c_Se_body l E hA _ _ _ (0) (0) (by omega) (by omega)) cb_Se_body ci_Se_body ln_Se_76 (cp_9 hA) rfl rfl (zlq rfl) rfl (zlq rfl) (zlq rfl) d_Se_find_23 ?_
    refine z_rf ?_
    refine z_iconst d_Se_find_26 ic_1 ?_
    refine z_put fp_Se_55 d_Se_find_27 (cp_19 hA (j := 21 * (0) + (0)) (by omega)) (z_nb nz_1) (z_fb nz_1) (zlt rfl) ?_
    refine z_eqh (cp_p19_0 hA (by omega) nz_1) ?_
    refine z_aload_n d_Se_find_30 rfl ?_
    refine z_iconst d_Se_find_31 ic_0 ?_
    refine z_iconst d_Se_find_32 ic_0 ?_
    refine z_cVr (c_Se_body l E hA _ _ _ (0) (0) (by omega) (by omega)) cb_Se_body ci_Se_body ln_Se_76 (cp_9 hA) rfl rfl (zlq rfl) rfl (zlq rfl) (zlq rfl) d_Se_find_33 ?_
    refine z_rf ?_
    refine z_iconst d_Se_find_36 ic_1 ?_
    refine z_put fp_Se_59 d_Se_find_37 (cp_19 hA (j := 21 * (0) + (0)) (by omega)) (z_nb nz_1) (z_fb nz_1) (zlt rfl) ?_
    refine z_eqh (cp_p19_1 hA (by omega) nz_1) ?_
    refine z_iconst d_Se_find_40 ic_1 ?_
    refine z_istore_n d_Se_find_41 (zlt rfl) ?_
    have lp : ∀ (g : Nat) (T : zSt), cSp X K g T → cLp X K g T = cLp X K f (cF0 S) → zG (zcx l E b_Se_find "PointsToRounds$Sets" 7 (none) false rm_Se_find (cp E A K X S R) sz (zPv (cp E A K X (cFd X K f S) R))) 0 0 42 [some (.ref (A (9, 0))), some (.int (nI 1)), none, none, none, none, none] [] (cp E A K X T R) := by
      intro g
      induction g with
      | zero => intro T hT; exact hT.elim
      | succ g ih =>
        intro T hT hE
        refine z_iload_n d_Se_find_42 rfl ?_
        refine z_if_eq (tgt := 178) d_Se_find_43 (by decide) (fun c43 => absurd c43 (by decide +kernel)) (fun c43 => ?_)
        refine z_iconst d_Se_find_46 ic_0 ?_
        refine z_istore_n d_Se_find_47 (zlt rfl) ?_
        refine zlp (Gh := fun (kz : Nat) (Z : zSt) => zG (zcx l E b_Se_find "PointsToRounds$Sets" 7 (none) false rm_Se_find (cp E A K X S R) sz (zPv (cp E A K X (cFd X K f S) R))) 0 0 48 [some (.ref (A (9, 0))), some (.int (nI 1)), some (.int (nI (kz))), none, none, none, none] [] (cp E A K X Z R)) (f := fun m S => cFm X K m S) (N := cn X 4) (x0 := T) ?_ ?_
        rotate_left
        · intro m hm ihm
          generalize zit _ m _ = Zm at ihm ⊢
          show zG (zcx l E b_Se_find "PointsToRounds$Sets" 7 (none) false rm_Se_find (cp E A K X S R) sz (zPv (cp E A K X (cFd X K f S) R))) 0 0 48 [some (.ref (A (9, 0))), some (.int (nI 1)), some (.int (nI (m))), none, none, none, none] [] (cp E A K X Zm R)
          try dsimp only at ihm
          refine z_iload_n d_Se_find_48 rfl ?_
          refine z_aload_n d_Se_find_49 rfl ?_
          refine z_get fa_Se_3 d_Se_find_50 (cp_9 hA) rfl ?_
          refine z_get fa_Se_72 d_Se_find_53 (cp_0 hA) rfl ?_
          refine z_top h4 ?_
          refine z_icmp_ge (tgt := 160) d_Se_find_56 (by decide) (fun c56 => absurd c56 (nI_ge hm (by omega))) (fun c56 => ?_)
          have c56n := (not_congr (nI_leI (by omega) (by omega))).mp c56
          refine z_iconst d_Se_find_59 ic_0 ?_
          refine z_istore_n d_Se_find_60 (zlt rfl) ?_
          refine zlp (Gh := fun (kz : Nat) (Z : zSt) => zG (zcx l E b_Se_find "PointsToRounds$Sets" 7 (none) false rm_Se_find (cp E A K X S R) sz (zPv (cp E A K X (cFd X K f S) R))) 0 0 61 [some (.ref (A (9, 0))), some (.int (nI 1)), some (.int (nI (m))), some (.int (nI (kz))), none, none, none] [] (cp E A K X Z R)) (f := fun c S => cFb X K m c S) (N := 21) (x0 := Zm) ?_ ?_
          rotate_left
          · intro c hc ihc
            generalize zit _ c _ = Zc at ihc ⊢
            show zG (zcx l E b_Se_find "PointsToRounds$Sets" 7 (none) false rm_Se_find (cp E A K X S R) sz (zPv (cp E A K X (cFd X K f S) R))) 0 0 61 [some (.ref (A (9, 0))), some (.int (nI 1)), some (.int (nI (m))), some (.int (nI (c))), none, none, none] [] (cp E A K X Zc R)
            try dsimp only at ihc
            refine z_iload_n d_Se_find_61 rfl ?_
            refine z_bipush d_Se_find_62 bp_21 ?_
            refine z_icmp_ge (tgt := 154) d_Se_find_64 (by decide) (fun c64 => absurd c64 (nI_ge hc (by omega))) (fun c64 => ?_)
            have c64n := (not_congr (nI_leI (by omega) (by omega))).mp c64
            refine z_aload_n d_Se_find_67 rfl ?_
            refine z_iload_n d_Se_find_68 rfl ?_
            refine z_iload_n d_Se_find_69 rfl ?_
            refine z_cVr (c_Se_body l E hA _ _ _ (m) (c) (by omega) (by omega)) cb_Se_body ci_Se_body ln_Se_76 (cp_9 hA) rfl rfl (zlq rfl) rfl (zlq rfl) (zlq rfl) d_Se_find_70 ?_
            refine z_rf ?_
            refine z_astore d_Se_find_73 (zlt rfl) ?_
            refine z_aload d_Se_find_75 rfl ?_
            refine z_get fa_Se_55 d_Se_find_77 (cp_19 hA (j := 21 * (m) + (c)) (by omega)) rfl ?_
            refine z_if_ne (tgt := 86) d_Se_find_80 (by decide) (fun c80 => ?_) (fun c80 => ?_)
            · have c80n := bI_n.mp c80
              refine z_aload_n d_Se_find_86 rfl ?_
              refine z_get fa_Se_3 d_Se_find_87 (cp_9 hA) rfl ?_
              refine z_get fa_Se_98 d_Se_find_90 (cp_0 hA) rfl ?_
              refine z_iload_n d_Se_find_93 rfl ?_
              refine z_cFr (c_getB l E hA _ _ _ hK (m) (by omega)) cb_AL_get cf_get k_475 (cp_4 hA) rfl rfl (zlq rfl) rfl (zlq rfl) (zlq rfl) d_Se_find_94 ?_
              refine z_rf ?_
              refine z_cast (r := (R_AL, F_AL, 3)) rfl k_490 k_154 (cp_6 hA (j := m) (by omega)) d_Se_find_99 ?_
              refine z_astore d_Se_find_102 (zlt rfl) ?_
              refine z_iconst d_Se_find_104 ic_0 ?_
              refine z_istore d_Se_find_105 (zlt rfl) ?_
              have hmq := (hK.2.2.2.1 m (by omega))
              refine zlp (Gh := fun (kz : Nat) (Z : zSt) => zG (zcx l E b_Se_find "PointsToRounds$Sets" 7 (none) false rm_Se_find (cp E A K X S R) sz (zPv (cp E A K X (cFd X K f S) R))) 0 0 107 [some (.ref (A (9, 0))), some (.int (nI 1)), some (.int (nI (m))), some (.int (nI (c))), some (.ref (A (19, 21 * (m) + (c)))), some (.ref (A (6, m))), some (.int (nI (kz)))] [] (cp E A K X Z R)) (f := fun k S => cFk X K m c k S) (N := K 110 m) (x0 := Zc) ?_ ?_
              rotate_left
              · intro k hk ihk
                generalize zit _ k _ = Zk at ihk ⊢
                show zG (zcx l E b_Se_find "PointsToRounds$Sets" 7 (none) false rm_Se_find (cp E A K X S R) sz (zPv (cp E A K X (cFd X K f S) R))) 0 0 107 [some (.ref (A (9, 0))), some (.int (nI 1)), some (.int (nI (m))), some (.int (nI (c))), some (.ref (A (19, 21 * (m) + (c)))), some (.ref (A (6, m))), some (.int (nI (k)))] [] (cp E A K X Zk R)
                try dsimp only at ihk
                have hi80 := hkk m k (by omega) hk
                have hi8 : K 1000 (100 * (m) + (k)) < K 106 0 := by omega
                have hi7 : K 1000 (100 * (m) + (k)) < cn X 7 := by omega
                refine z_iload d_Se_find_107 rfl ?_
                refine z_aload d_Se_find_109 rfl ?_
                refine z_cFi (c_sizeM l E hA _ _ _ (m) (by omega)) cb_AL_size cf_size k_473 (cp_6 hA (j := m) (by omega)) rfl rfl (zlq rfl) rfl (zlq rfl) (zlq rfl) d_Se_find_111 ?_
                refine z_icmp_ge (tgt := 148) d_Se_find_116 (by decide) (fun c116 => absurd c116 (nI_ge hk (by omega))) (fun c116 => ?_)
                have c116n := (not_congr (nI_leI (by omega) (by omega))).mp c116
                refine z_aload_n d_Se_find_119 rfl ?_
                refine z_aload d_Se_find_120 rfl ?_
                refine z_iload d_Se_find_122 rfl ?_
                refine z_cFr (c_getM l E hA _ _ _ hK (m) (k) (by omega) (by omega)) cb_AL_get cf_get k_475 (cp_6 hA (j := m) (by omega)) rfl rfl (zlq rfl) rfl (zlq rfl) (zlq rfl) d_Se_find_124 ?_
                refine z_rf ?_
                refine z_cast (r := (R_St, F_St, 8)) rfl k_491 k_1144 (cp_8 hA (j := K 1000 (100 * (m) + (k))) (by omega)) d_Se_find_129 ?_
                refine z_aload d_Se_find_132 rfl ?_
                refine z_aload d_Se_find_134 rfl ?_
                refine z_get fa_Se_59 d_Se_find_136 (cp_19 hA (j := 21 * (m) + (c)) (by omega)) rfl ?_
                refine z_cVv (c_Se_carry l E hA _ _ _ hX (K 1000 (100 * (m) + (k))) (hi7) (hi8) (21 * (m) + (c)) (by omega) (bz (Zk 71 (21 * (m) + (c))))) cb_Se_carry ci_Se_carry ln_Se_103 (cp_9 hA) rfl rfl (zlq rfl) rfl (zlq rfl) (zlq rfl) d_Se_find_139 ?_
                refine z_iinc (v := nI (k + 1)) d_Se_find_142 (zlt rfl) rfl (zinc _) ?_
                refine z_goto (tgt := 107) d_Se_find_145 (by decide) ?_
                exact ihk
              show zG (zcx l E b_Se_find "PointsToRounds$Sets" 7 (none) false rm_Se_find (cp E A K X S R) sz (zPv (cp E A K X (cFd X K f S) R))) 0 0 107 [some (.ref (A (9, 0))), some (.int (nI 1)), some (.int (nI (m))), some (.int (nI (c))), some (.ref (A (19, 21 * (m) + (c)))), some (.ref (A (6, m))), some (.int (nI (K 110 m)))] [] (cp E A K X (zit (fun k S => cFk X K m c k S) (K 110 m) Zc) R)
              refine z_iload d_Se_find_107 rfl ?_
              refine z_aload d_Se_find_109 rfl ?_
              refine z_cFi (c_sizeM l E hA _ _ _ (m) (by omega)) cb_AL_size cf_size k_473 (cp_6 hA (j := m) (by omega)) rfl rfl (zlq rfl) rfl (zlq rfl) (zlq rfl) d_Se_find_111 ?_
              refine z_icmp_ge (tgt := 148) d_Se_find_116 (by decide) (fun c116 => ?_) (fun c116 => absurd (nI_le (Nat.le_refl _) (by omega)) c116)
              have c116n := (nI_leI (by omega) (by omega)).mp c116
              refine z_iinc (v := nI (c + 1)) d_Se_find_148 (zlt rfl) rfl (zinc _) ?_
              refine z_goto (tgt := 61) d_Se_find_151 (by decide) ?_
              refine z_fl 4 ?_
              refine z_fl 5 ?_
              refine z_fl 6 ?_
              unfold cFb at ihc
              rw [if_pos c80n] at ihc
              exact ihc
            · have c80n := bI_e.mp c80
              refine z_goto (tgt := 148) d_Se_find_83 (by decide) ?_
              refine z_iinc (v := nI (c + 1)) d_Se_find_148 (zlt rfl) rfl (zinc _) ?_
              refine z_goto (tgt := 61) d_Se_find_151 (by decide) ?_
              refine z_fl 4 ?_
              unfold cFb at ihc
              rw [if_neg (zbf c80n)] at ihc
              exact ihc
          rw [show (zit (fun c S => cFb X K m c S) (21) Zm) = (cFm X K m Zm) from rfl]
          show zG (zcx l E b_Se_find "PointsToRounds$Sets" 7 (none) false rm_Se_find (cp E A K X S R) sz (zPv (cp E A K X (cFd X K f S) R))) 0 0 61 [some (.ref (A (9, 0))), some (.int (nI 1)), some (.int (nI (m))), some (.int (nI 21)), none, none, none] [] (cp E A K X (cFm X K m Zm) R)
          refine z_iload_n d_Se_find_61 rfl ?_
          refine z_bipush d_Se_find_62 bp_21 ?_
          refine z_icmp_ge (tgt := 154) d_Se_find_64 (by decide) (fun c64 => ?_) (fun c64 => absurd (by decide +kernel) c64)
          refine z_iinc (v := nI (m + 1)) d_Se_find_154 (zlt rfl) rfl (zinc _) ?_
          refine z_goto (tgt := 48) d_Se_find_157 (by decide) ?_
          refine z_fl 3 ?_
          exact ihm
        rw [show (zit (fun m S => cFm X K m S) (cn X 4) T) = (cF1 X K T) from rfl]
        show zG (zcx l E b_Se_find "PointsToRounds$Sets" 7 (none) false rm_Se_find (cp E A K X S R) sz (zPv (cp E A K X (cFd X K f S) R))) 0 0 48 [some (.ref (A (9, 0))), some (.int (nI 1)), some (.int (nI (cn X 4))), none, none, none, none] [] (cp E A K X (cF1 X K T) R)
        refine z_iload_n d_Se_find_48 rfl ?_
        refine z_aload_n d_Se_find_49 rfl ?_
        refine z_get fa_Se_3 d_Se_find_50 (cp_9 hA) rfl ?_
        refine z_get fa_Se_72 d_Se_find_53 (cp_0 hA) rfl ?_
        refine z_top h4 ?_
        refine z_icmp_ge (tgt := 160) d_Se_find_56 (by decide) (fun c56 => ?_) (fun c56 => absurd (nI_le (Nat.le_refl _) (by omega)) c56)
        have c56n := (nI_leI (by omega) (by omega)).mp c56
        refine z_aload_n d_Se_find_160 rfl ?_
        refine z_dup d_Se_find_161 rfl ?_
        refine z_get fa_Se_94 d_Se_find_162 (cp_9 hA) rfl ?_
        refine z_iconst d_Se_find_165 ic_1 ?_
        refine z_iadd d_Se_find_166 ?_
        refine z_put fp_Se_94 d_Se_find_167 (cp_9 hA) (vp_nar_int _) rfl (zlt rfl) ?_
        refine z_eqh (cp_p9_5 hA) ?_
        refine z_aload_n d_Se_find_170 rfl ?_
        refine z_cVi (c_Se_turn l E hA _ _ _ hX) cb_Se_turn ci_Se_turn ln_Se_107 (cp_9 hA) rfl rfl (zlq rfl) rfl (zlq rfl) (zlq rfl) d_Se_find_171 ?_
        cases hm : (cNx X K T).1
        · rw [cLp, if_neg (by rw [hm]; decide)] at hE
          rw [show (cTurn X (va_up (cF1 X K T) 31 (fun _ => cF1 X K T 31 0 + nI 1))).1 = false from hm]
          refine z_istore_n d_Se_find_174 (zlt rfl) ?_
          refine z_goto (tgt := 42) d_Se_find_175 (by decide) ?_
          refine z_iload_n d_Se_find_42 rfl ?_
          refine z_if_eq (tgt := 178) d_Se_find_43 (by decide) (fun _ => ?_) (fun q => absurd rfl q)
          refine z_aload_n d_Se_find_178 rfl ?_
          refine z_dup d_Se_find_179 rfl ?_
          refine z_get fa_Se_94 d_Se_find_180 (cp_9 hA) rfl ?_
          refine z_iconst d_Se_find_183 ic_1 ?_
          refine z_isub d_Se_find_184 ?_
          refine z_put fp_Se_94 d_Se_find_185 (cp_9 hA) (vp_nar_int _) rfl (zlt rfl) ?_
          refine z_eqh (cp_p9_5 hA) ?_
          exact z_vret rfl d_Se_find_188 (zlq rfl) (zlq rfl) (⟨rfl, by unfold cFd; rw [if_neg c16n, ← hE]; rfl⟩)
        · rw [cLp, if_pos hm] at hE
          rw [show (cTurn X (va_up (cF1 X K T) 31 (fun _ => cF1 X K T 31 0 + nI 1))).1 = true from hm]
          have hT2 := hT.resolve_left (by rw [hm]; decide)
          refine z_istore_n d_Se_find_174 (zlt rfl) ?_
          refine z_goto (tgt := 42) d_Se_find_175 (by decide) ?_
          refine z_fl 2 ?_
          exact ih _ hT2 hE
    exact lp f _ (hF c16n) rfl
  · have c16n := (nI_z (by omega)).mp c16
    exact z_vret rfl d_Se_find_19 (zlq rfl) (zlq rfl) (⟨rfl, by unfold cFd; rw [if_pos c16n]; rfl⟩)
