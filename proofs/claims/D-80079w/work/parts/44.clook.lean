/-! the component: Run.look -/
theorem z_q {C : zC} {k n pc : Nat} {L : zL} {st : List Value} {h : zPH} {x y : Option Nat} (hh : x = y) (kk : zG C k n pc L (va_rf y :: st) h) : zG C k n pc L (va_rf x :: st) h := by rw [hh]; exact kk
theorem rf_cat {x : Option Nat} : (va_rf x).category = 1 := by cases x <;> rfl
theorem z_rn {C : zC} {k n pc : Nat} {L : zL} {st : List Value} {h : zPH} (kk : zG C k n pc L (.null :: st) h) : zG C k n pc L (va_rf none :: st) h := kk
theorem lk42 {R : zSt} {z : (Nat → Int32) × Bool} {f : Nat → Int32} : va_up (lkR R z) 42 f = lkR R (f, z.2) := by
  unfold lkR
  funext j
  by_cases c : j = 42
  · subst c; rw [va_up_self, va_up_ne _ _ (by decide), va_up_self]
  · rw [va_up_ne _ _ c]
    by_cases d : j = 74
    · subst d; rw [va_up_self, va_up_self]
    · rw [va_up_ne _ _ d, va_up_ne _ _ d, va_up_ne _ _ c, va_up_ne _ _ c]
def rV (X R : zSt) : Prop :=
  (R 37 0 = nI (cn R 37) ∧ 1 ≤ cn R 37 ∧ cn R 37 ≤ 10) ∧ (R 32 0 = nI (cn R 32) ∧ cn R 32 ≤ 30) ∧
  (∀ j, j < cn R 37 → (R 38 j = nI (ne R 38 j) ∧ ne R 38 j < cn X 4) ∧ (R 39 j = nI (ne R 39 j) ∧ ne R 39 j < 21) ∧ (R 40 j = nI (ne R 40 j) ∧ ne R 40 j < 6)) ∧
  (∀ j, j < cn R 37 → ∀ n, n < 6 → oR (cn R 32) (R 41 (6 * j + n))) ∧
  (∀ o, o < cn R 32 → R 33 o = nI (ne R 33 o) ∧ ne R 33 o < cn X 16) ∧ (∀ o, o < cn R 32 → oR (cn R 32) (R 35 o)) ∧ (∀ o, o < cn R 32 → ∀ f, f < 8 → oR (cn R 32) (R 34 (8 * o + f))) ∧ (∀ s, s < 4 → oR (cn R 32) (R 36 s))
def kR (K : Nat → Nat → Nat) (X R : zSt) : Prop := K 109 0 ≠ 0 ∧ (K 102 0 = cn R 32 ∧ K 107 0 = cn R 32) ∧ (K 103 0 = cn R 37 ∧ K 108 0 = cn R 37) ∧ (K 102 0 ≤ K 20 0 ∧ K 20 0 ≤ 90 ∧ (K 20 0 = 0 ∨ 10 ≤ K 20 0)) ∧ ∀ j, 0 < j → j < cn R 37 → K 2000 j < K 106 0 ∧ R 40 j = X 10 (K 2000 j)
def lk1 (S R : zSt) (t m c n : Nat) (z : (Nat → Int32) × Bool) : (Nat → Int32) × Bool := (if R 41 (6 * t + n) < 0 then z.1 else upd z.1 (6 * m + n) (z.1 (6 * m + n) ||| (nI 1 <<< (R 33 (R 41 (6 * t + n)).toNatClampNeg &&& 31))), z.2 && inS R (R 41 (6 * t + n)) (S 20 (6 * (21 * m + c) + n)))
def lkA (S R : zSt) (t m c : Nat) (z : (Nat → Int32) × Bool) : (Nat → Int32) × Bool := zit (fun n z => lk1 S R t m c n z) 6 z
def lkB (S R : zSt) (b : Bool) : Bool := zit (fun s z => z && inS R (R 36 s) (S 26 s)) 4 b
def lkC1 (X S R : zSt) (o : Nat) (b : Bool) : Bool := zit (fun f z => z && inS R (R 34 (8 * o + f)) (S 22 (8 * (ne R 33 o) + f))) (cn X 2) (b && inS R (R 35 o) (S 24 (ne R 33 o)))
def lkC (X S R : zSt) (b : Bool) : Bool := zit (fun o z => lkC1 X S R o z) (cn R 32) b
def lkF (X S R : zSt) (z : (Nat → Int32) × Bool) : (Nat → Int32) × Bool := ((lkA S R (cn R 37 - 1) (ne R 38 (cn R 37 - 1)) (ne R 39 (cn R 37 - 1)) z).1, lkC X S R (lkB S R (lkA S R (cn R 37 - 1) (ne R 38 (cn R 37 - 1)) (ne R 39 (cn R 37 - 1)) z).2))
abbrev rm_Ru_look : Room := { frames := 4, cells := 0, slots := 0, locals := 86 }
set_option maxHeartbeats 4000000 in
set_option maxRecDepth 100000 in
theorem c_Ru_look (l : Launch) (E : zE) {A : rl → Nat} {K : Nat → Nat → Nat} (hA : cIj K A) (X S R : zSt) (hX : tInv X) (hV : rV X R) (hR : kR K X R) (z : (Nat → Int32) × Bool) : zM l E y_Ru_look b_Ru_look 6 (none) rm_Ru_look [.ref (A (26, 0))] (cp E A K X S (lkR R z)) (zPv (cp E A K X S (lkR R (lkF X S R z)))) := by
  refine zM_w (by decide +kernel) rfl rfl (fun sz => ?_)
  obtain ⟨⟨⟨h0, b0⟩, ⟨h2, b2⟩, ⟨h4, b4⟩, ⟨h7, b7⟩, ⟨h16, b16⟩⟩, h18, h19, hp, hf0, hs, hst⟩ := id hX
  obtain ⟨⟨v37, v37a, v37b⟩, ⟨v32, v32b⟩, vfr, v41, v33, v35, v34, v36⟩ := id hV
  obtain ⟨hf, ⟨k102, k107⟩, ⟨k103, k108⟩, ⟨k20a, k20b, k20c⟩, kby⟩ := id hR
  obtain ⟨t, ht⟩ : ∃ t, cn R 37 = t + 1 := ⟨cn R 37 - 1, by omega⟩
  obtain ⟨⟨v38, v38b⟩, ⟨v39, v39b⟩, -⟩ := vfr t (by omega)
  refine z_aload_n d_Ru_look_0 rfl ?_
  refine z_get fa_Ru_25 d_Ru_look_1 (cp_26 hA hf) rfl ?_
  refine z_cVr (c_peek l E hA _ _ _ hf t (by omega) (by omega)) cb_AD_peek ci_AD_peek ln_Ru_57 (cp_29 hA hf) rfl rfl (zlq rfl) rfl (zlq rfl) (zlq rfl) d_Ru_look_4 ?_
  refine z_rf ?_
  refine z_cast (r := (R_Fr, F_Fr, 4)) rfl k_648 k_1145 (cp_35 hA (j := t) ⟨by omega, hf⟩) d_Ru_look_7 ?_
  refine z_astore_n d_Ru_look_10 (zlt rfl) ?_
  refine z_aload_n d_Ru_look_11 rfl ?_
  refine z_get fa_Ru_3 d_Ru_look_12 (cp_26 hA hf) rfl ?_
  refine z_get fa_Ru_163 d_Ru_look_15 (cp_0 hA) rfl ?_
  refine z_aload_n d_Ru_look_18 rfl ?_
  refine z_get fa_Ru_61 d_Ru_look_19 (cp_35 hA (j := t) ⟨by omega, hf⟩) rfl ?_
  refine z_top (show _ = nI (ne R 38 t) from v38) ?_
  refine z_aload_n d_Ru_look_22 rfl ?_
  refine z_get fa_Ru_167 d_Ru_look_23 (cp_35 hA (j := t) ⟨by omega, hf⟩) rfl ?_
  refine z_top (show _ = nI (ne R 39 t) from v39) ?_
  refine z_cVr (c_Se_body l E hA _ _ _ (ne R 38 t) (ne R 39 t) (by omega) (by omega)) cb_Se_body ci_Se_body ln_Ru_170 (cp_9 hA) rfl rfl (zlq rfl) rfl (zlq rfl) (zlq rfl) d_Ru_look_26 ?_
  refine z_rf ?_
  refine z_astore_n d_Ru_look_29 (zlt rfl) ?_
  refine z_iconst d_Ru_look_30 ic_0 ?_
  refine z_istore_n d_Ru_look_31 (zlt rfl) ?_
  refine zlp (Gh := fun (kz : Nat) (Z : ((Nat → Int32) × Bool)) => zG (zcx l E b_Ru_look "PointsToRounds$Run" 6 (none) false rm_Ru_look (cp E A K X S (lkR R z)) sz (zPv (cp E A K X S (lkR R (lkF X S R z))))) 0 0 32 [some (.ref (A (26, 0))), some (.ref (A (35, t))), some (.ref (A (19, 21 * (ne R 38 t) + (ne R 39 t)))), some (.int (nI (kz))), none, none] [] (cp E A K X S (lkR R Z))) (f := fun n z => lk1 S R t (ne R 38 t) (ne R 39 t) n z) (N := 6) (x0 := z) ?_ ?_
  rotate_left
  · intro n hn ihn
    generalize zit _ n _ = Zn at ihn ⊢
    show zG (zcx l E b_Ru_look "PointsToRounds$Run" 6 (none) false rm_Ru_look (cp E A K X S (lkR R z)) sz (zPv (cp E A K X S (lkR R (lkF X S R z))))) 0 0 32 [some (.ref (A (26, 0))), some (.ref (A (35, t))), some (.ref (A (19, 21 * (ne R 38 t) + (ne R 39 t)))), some (.int (nI (n))), none, none] [] (cp E A K X S (lkR R Zn))
    try dsimp only at ihn
    refine z_iload_n d_Ru_look_32 rfl ?_
    refine z_bipush d_Ru_look_33 bp_6 ?_
    refine z_icmp_ge (tgt := 96) d_Ru_look_35 (by decide) (fun c35 => absurd c35 (nI_ge hn (by omega))) (fun c35 => ?_)
    have c35n := (not_congr (nI_leI (by omega) (by omega))).mp c35
    refine z_aload_n d_Ru_look_38 rfl ?_
    refine z_aload_n d_Ru_look_39 rfl ?_
    refine z_get fa_Ru_91 d_Ru_look_40 (cp_35 hA (j := t) ⟨by omega, hf⟩) rfl ?_
    refine z_iload_n d_Ru_look_43 rfl ?_
    refine z_aaldT (n) d_Ru_look_44 (cp_36 hA (j := t) ⟨by omega, hf⟩) rfl (show n < 6 by omega) (by decide) ?_
    refine z_q (show _ = thr A (R 41 (6 * t + n)) from if_pos (show n < 6 by omega)) ?_
    refine z_aload_n d_Ru_look_45 rfl ?_
    refine z_iload_n d_Ru_look_46 rfl ?_
    refine z_cVr (c_name l E hA _ _ _ (21 * (ne R 38 t) + (ne R 39 t)) (n) (by omega) (by omega)) cb_Bo_name ci_Bo_name ln_Ru_176 (cp_19 hA (j := 21 * (ne R 38 t) + (ne R 39 t)) (by omega)) rfl rfl (by simp only [List.map_cons, List.map_nil, List.sum_cons, List.sum_nil, rf_cat]; exact zlq rfl) rfl (zlq rfl) (zlq rfl) d_Ru_look_47 ?_
    refine z_rf ?_
    refine z_cVv (c_is22 l E hA _ _ _ hf (R 41 (6 * t + n)) (cn R 32) (v41 t (by omega) n (by omega)) (by omega) v32b (6 * (21 * (ne R 38 t) + (ne R 39 t)) + n) (by omega)) cb_Ru_is ci_Ru_is ln_Ru_182 (cp_26 hA hf) rfl rfl (zlq rfl) rfl (zlq rfl) (zlq rfl) d_Ru_look_50 ?_
    rw [cIs_lk]
    refine z_aload_n d_Ru_look_53 rfl ?_
    refine z_get fa_Ru_91 d_Ru_look_54 (cp_35 hA (j := t) ⟨by omega, hf⟩) rfl ?_
    refine z_iload_n d_Ru_look_57 rfl ?_
    refine z_aaldT (n) d_Ru_look_58 (cp_36 hA (j := t) ⟨by omega, hf⟩) rfl (show n < 6 by omega) (by decide) ?_
    rcases v41 t (by omega) n (by omega) with ex | ⟨o, ho, ex⟩
    · refine z_q (show _ = none from (if_pos (show n < 6 by omega)).trans (by show thr A (R 41 (6 * t + n)) = none; rw [ex]; exact thr_m1)) ?_
      refine z_rn ?_
      refine z_ifnullN (tgt := 90) d_Ru_look_59 (by decide) ?_
      refine z_iinc (v := nI (n + 1)) d_Ru_look_90 (zlt rfl) rfl (zinc _) ?_
      refine z_goto (tgt := 32) d_Ru_look_93 (by decide) ?_
      unfold lk1 at ihn
      rw [if_pos (by rw [ex]; exact zneg)] at ihn
      exact ihn
    · have ho33 := v33 o (by omega)
      have ho33b := ho33.2
      refine z_q (show _ = some (A (33, o)) from (if_pos (show n < 6 by omega)).trans (by show thr A (R 41 (6 * t + n)) = _; rw [ex]; exact thr_n (by omega))) ?_
      refine z_rf ?_
      refine z_ifnullR d_Ru_look_59 ?_
      refine z_aload_n d_Ru_look_62 rfl ?_
      refine z_get fa_Ru_35 d_Ru_look_63 (cp_26 hA hf) rfl ?_
      refine z_bipush d_Ru_look_66 bp_6 ?_
      refine z_aload_n d_Ru_look_68 rfl ?_
      refine z_get fa_Ru_61 d_Ru_look_69 (cp_35 hA (j := t) ⟨by omega, hf⟩) rfl ?_
      refine z_top (show _ = nI (ne R 38 t) from v38) ?_
      refine z_imul d_Ru_look_72 ?_
      refine z_top (pk_mul (6) (ne R 38 t)) ?_
      refine z_iload_n d_Ru_look_73 rfl ?_
      refine z_iadd d_Ru_look_74 ?_
      refine z_top (nI_add (6 * (ne R 38 t)) (n)) ?_
      refine z_dup2 d_Ru_look_75 rfl rfl ?_
      refine z_iald (6 * (ne R 38 t) + n) d_Ru_look_76 (cp_32 hA hf) rfl (show 6 * (ne R 38 t) + n < 60 from by omega) (by decide) ?_
      refine z_top (show _ = ((Zn.1, Zn.2 && inS R (R 41 (6 * t + n)) (S 20 (6 * (21 * (ne R 38 t) + (ne R 39 t)) + n)))).1 (6 * (ne R 38 t) + n) from rfl) ?_
      refine z_iconst d_Ru_look_77 ic_1 ?_
      refine z_aload_n d_Ru_look_78 rfl ?_
      refine z_get fa_Ru_91 d_Ru_look_79 (cp_35 hA (j := t) ⟨by omega, hf⟩) rfl ?_
      refine z_iload_n d_Ru_look_82 rfl ?_
      refine z_aaldT (n) d_Ru_look_83 (cp_36 hA (j := t) ⟨by omega, hf⟩) rfl (show n < 6 by omega) (by decide) ?_
      refine z_q (show _ = some (A (33, o)) from (if_pos (show n < 6 by omega)).trans (by show thr A (R 41 (6 * t + n)) = _; rw [ex]; exact thr_n (by omega))) ?_
      refine z_rf ?_
      refine z_get fa_Ru_117 d_Ru_look_84 (cp_33 hA (j := o) ⟨by omega, hf⟩) rfl ?_
      refine z_top (show _ = R 33 (o) from rfl) ?_
      refine z_ishl d_Ru_look_87 ?_
      refine z_ior d_Ru_look_88 ?_
      refine z_iast (6 * (ne R 38 t) + n) d_Ru_look_89 (cp_32 hA hf) rfl (show 6 * (ne R 38 t) + n < 60 by omega) (by decide) ?_
      refine z_eqh (cp_p32 hA hf) ?_
      rw [lk42]
      refine z_iinc (v := nI (n + 1)) d_Ru_look_90 (zlt rfl) rfl (zinc _) ?_
      refine z_goto (tgt := 32) d_Ru_look_93 (by decide) ?_
      unfold lk1 at ihn
      rw [if_neg (by rw [ex]; exact nI_pos (by omega)), show (R 41 (6 * t + n)).toNatClampNeg = o by rw [ex, nI_clamp (by omega)]] at ihn
      exact ihn
  rw [show (zit (fun n z => lk1 S R t (ne R 38 t) (ne R 39 t) n z) (6) z) = (lkA S R t (ne R 38 t) (ne R 39 t) z) from rfl]
  show zG (zcx l E b_Ru_look "PointsToRounds$Run" 6 (none) false rm_Ru_look (cp E A K X S (lkR R z)) sz (zPv (cp E A K X S (lkR R (lkF X S R z))))) 0 0 32 [some (.ref (A (26, 0))), some (.ref (A (35, t))), some (.ref (A (19, 21 * (ne R 38 t) + (ne R 39 t)))), some (.int (nI 6)), none, none] [] (cp E A K X S (lkR R (lkA S R t (ne R 38 t) (ne R 39 t) z)))
  refine z_iload_n d_Ru_look_32 rfl ?_
  refine z_bipush d_Ru_look_33 bp_6 ?_
  refine z_icmp_ge (tgt := 96) d_Ru_look_35 (by decide) (fun c35 => ?_) (fun c35 => absurd (by decide +kernel) c35)
  refine z_iconst d_Ru_look_96 ic_0 ?_
  refine z_istore_n d_Ru_look_97 (zlt rfl) ?_
  show zG (zcx l E b_Ru_look "PointsToRounds$Run" 6 (none) false rm_Ru_look (cp E A K X S (lkR R z)) sz (zPv (cp E A K X S (lkR R (lkF X S R z))))) 0 0 98 [some (.ref (A (26, 0))), some (.ref (A (35, t))), some (.ref (A (19, 21 * (ne R 38 t) + (ne R 39 t)))), some (.int (nI 0)), none, none] [] (cp E A K X S (lkR R ((lkA S R t (ne R 38 t) (ne R 39 t) z).1, (lkA S R t (ne R 38 t) (ne R 39 t) z).2)))
  refine zlp (Gh := fun (kz : Nat) (Z : Bool) => zG (zcx l E b_Ru_look "PointsToRounds$Run" 6 (none) false rm_Ru_look (cp E A K X S (lkR R z)) sz (zPv (cp E A K X S (lkR R (lkF X S R z))))) 0 0 98 [some (.ref (A (26, 0))), some (.ref (A (35, t))), some (.ref (A (19, 21 * (ne R 38 t) + (ne R 39 t)))), some (.int (nI (kz))), none, none] [] (cp E A K X S (lkR R ((lkA S R t (ne R 38 t) (ne R 39 t) z).1, Z)))) (f := fun s z => z && inS R (R 36 s) (S 26 s)) (N := 4) (x0 := (lkA S R t (ne R 38 t) (ne R 39 t) z).2) ?_ ?_
  rotate_left
  · intro s hs ihs
    generalize zit _ s _ = Zs at ihs ⊢
    show zG (zcx l E b_Ru_look "PointsToRounds$Run" 6 (none) false rm_Ru_look (cp E A K X S (lkR R z)) sz (zPv (cp E A K X S (lkR R (lkF X S R z))))) 0 0 98 [some (.ref (A (26, 0))), some (.ref (A (35, t))), some (.ref (A (19, 21 * (ne R 38 t) + (ne R 39 t)))), some (.int (nI (s))), none, none] [] (cp E A K X S (lkR R ((lkA S R t (ne R 38 t) (ne R 39 t) z).1, Zs)))
    try dsimp only at ihs
    refine z_iload_n d_Ru_look_98 rfl ?_
    refine z_iconst d_Ru_look_99 ic_4 ?_
    refine z_icmp_ge (tgt := 138) d_Ru_look_100 (by decide) (fun c100 => absurd c100 (nI_ge hs (by omega))) (fun c100 => ?_)
    have c100n := (not_congr (nI_leI (by omega) (by omega))).mp c100
    refine z_aload_n d_Ru_look_103 rfl ?_
    refine z_aload_n d_Ru_look_104 rfl ?_
    refine z_get fa_Ru_31 d_Ru_look_105 (cp_26 hA hf) rfl ?_
    refine z_iload_n d_Ru_look_108 rfl ?_
    refine z_aaldT (s) d_Ru_look_109 (cp_31 hA hf) rfl (show s < 4 by omega) (by decide) ?_
    refine z_q (show _ = thr A (R 36 (s)) from if_pos (show s < 4 by omega)) ?_
    refine z_aload_n d_Ru_look_110 rfl ?_
    refine z_get fa_Ru_3 d_Ru_look_111 (cp_26 hA hf) rfl ?_
    refine z_get fa_Ru_163 d_Ru_look_114 (cp_0 hA) rfl ?_
    refine z_get fa_Ru_186 d_Ru_look_117 (cp_9 hA) rfl ?_
    refine z_iload_n d_Ru_look_120 rfl ?_
    refine z_cFr (c_get11_3 l E hA _ _ _ (s) (by omega)) cb_AL_get cf_get k_709 (cp_11 hA (j := 3) (by omega)) rfl rfl (by simp only [List.map_cons, List.map_nil, List.sum_cons, List.sum_nil, rf_cat]; exact zlq rfl) rfl (zlq rfl) (zlq rfl) d_Ru_look_121 ?_
    refine z_rf ?_
    refine z_cast (r := (R_Ce, F_Ce, 3)) rfl k_781 k_1143 (cp_25 hA (j := s) (by omega)) d_Ru_look_126 ?_
    refine z_cVv (c_is25 l E hA _ _ _ hf (R 36 (s)) (cn R 32) (v36 s (by omega)) (by omega) v32b (s) (by omega)) cb_Ru_is ci_Ru_is ln_Ru_182 (cp_26 hA hf) rfl rfl (zlq rfl) rfl (zlq rfl) (zlq rfl) d_Ru_look_129 ?_
    rw [cIs_lk]
    refine z_iinc (v := nI (s + 1)) d_Ru_look_132 (zlt rfl) rfl (zinc _) ?_
    refine z_goto (tgt := 98) d_Ru_look_135 (by decide) ?_
    exact ihs
  rw [show (zit (fun s z => z && inS R (R 36 s) (S 26 s)) (4) (lkA S R t (ne R 38 t) (ne R 39 t) z).2) = (lkB S R (lkA S R t (ne R 38 t) (ne R 39 t) z).2) from rfl]
  show zG (zcx l E b_Ru_look "PointsToRounds$Run" 6 (none) false rm_Ru_look (cp E A K X S (lkR R z)) sz (zPv (cp E A K X S (lkR R (lkF X S R z))))) 0 0 98 [some (.ref (A (26, 0))), some (.ref (A (35, t))), some (.ref (A (19, 21 * (ne R 38 t) + (ne R 39 t)))), some (.int (nI 4)), none, none] [] (cp E A K X S (lkR R ((lkA S R t (ne R 38 t) (ne R 39 t) z).1, (lkB S R (lkA S R t (ne R 38 t) (ne R 39 t) z).2))))
  refine z_iload_n d_Ru_look_98 rfl ?_
  refine z_iconst d_Ru_look_99 ic_4 ?_
  refine z_icmp_ge (tgt := 138) d_Ru_look_100 (by decide) (fun c100 => ?_) (fun c100 => absurd (by decide +kernel) c100)
  refine z_iconst d_Ru_look_138 ic_0 ?_
  refine z_istore_n d_Ru_look_139 (zlt rfl) ?_
  refine zlp (Gh := fun (kz : Nat) (Z : Bool) => zG (zcx l E b_Ru_look "PointsToRounds$Run" 6 (none) false rm_Ru_look (cp E A K X S (lkR R z)) sz (zPv (cp E A K X S (lkR R (lkF X S R z))))) 0 0 140 [some (.ref (A (26, 0))), some (.ref (A (35, t))), some (.ref (A (19, 21 * (ne R 38 t) + (ne R 39 t)))), some (.int (nI (kz))), none, none] [] (cp E A K X S (lkR R ((lkA S R t (ne R 38 t) (ne R 39 t) z).1, Z)))) (f := fun o z => lkC1 X S R o z) (N := cn R 32) (x0 := (lkB S R (lkA S R t (ne R 38 t) (ne R 39 t) z).2)) ?_ ?_
  rotate_left
  · intro o ho iho
    generalize zit _ o _ = Zo at iho ⊢
    show zG (zcx l E b_Ru_look "PointsToRounds$Run" 6 (none) false rm_Ru_look (cp E A K X S (lkR R z)) sz (zPv (cp E A K X S (lkR R (lkF X S R z))))) 0 0 140 [some (.ref (A (26, 0))), some (.ref (A (35, t))), some (.ref (A (19, 21 * (ne R 38 t) + (ne R 39 t)))), some (.int (nI (o))), none, none] [] (cp E A K X S (lkR R ((lkA S R t (ne R 38 t) (ne R 39 t) z).1, Zo)))
    try dsimp only at iho
    have ho33 := v33 o (by omega)
    have ho33b := ho33.2
    refine z_iload_n d_Ru_look_140 rfl ?_
    refine z_aload_n d_Ru_look_141 rfl ?_
    refine z_get fa_Ru_18 d_Ru_look_142 (cp_26 hA hf) rfl ?_
    refine z_cFi (c_sizeT l E hA _ _ _ hf) cb_AL_size cf_size k_712 (cp_27 hA hf) rfl rfl (zlq rfl) rfl (zlq rfl) (zlq rfl) d_Ru_look_145 ?_
    rw [k102]
    refine z_icmp_ge (tgt := 256) d_Ru_look_150 (by decide) (fun c150 => absurd c150 (nI_ge ho (by omega))) (fun c150 => ?_)
    have c150n := (not_congr (nI_leI (by omega) (by omega))).mp c150
    refine z_aload_n d_Ru_look_153 rfl ?_
    refine z_get fa_Ru_18 d_Ru_look_154 (cp_26 hA hf) rfl ?_
    refine z_iload_n d_Ru_look_157 rfl ?_
    refine z_cFr (c_getT l E hA _ _ _ hf k20a k20b (o) (by omega)) cb_AL_get cf_get k_709 (cp_27 hA hf) rfl rfl (zlq rfl) rfl (zlq rfl) (zlq rfl) d_Ru_look_158 ?_
    refine z_rf ?_
    refine z_cast (r := (R_Th, F_Th, 3)) rfl k_615 k_1146 (cp_33 hA (j := o) ⟨by omega, hf⟩) d_Ru_look_163 ?_
    refine z_astore d_Ru_look_166 (zlt rfl) ?_
    refine z_aload_n d_Ru_look_168 rfl ?_
    refine z_aload d_Ru_look_169 rfl ?_
    refine z_get fa_Ru_138 d_Ru_look_171 (cp_33 hA (j := o) ⟨by omega, hf⟩) rfl ?_
    refine z_aload_n d_Ru_look_174 rfl ?_
    refine z_get fa_Ru_3 d_Ru_look_175 (cp_26 hA hf) rfl ?_
    refine z_get fa_Ru_163 d_Ru_look_178 (cp_0 hA) rfl ?_
    refine z_get fa_Ru_188 d_Ru_look_181 (cp_9 hA) rfl ?_
    refine z_aload d_Ru_look_184 rfl ?_
    refine z_get fa_Ru_117 d_Ru_look_186 (cp_33 hA (j := o) ⟨by omega, hf⟩) rfl ?_
    refine z_top (show _ = nI (ne R 33 o) from (v33 o (by omega)).1) ?_
    refine z_cFr (c_get11_2 l E hA _ _ _ (ne R 33 o) (by omega)) cb_AL_get cf_get k_709 (cp_11 hA (j := 2) (by omega)) rfl rfl (by simp only [List.map_cons, List.map_nil, List.sum_cons, List.sum_nil, rf_cat]; exact zlq rfl) rfl (zlq rfl) (zlq rfl) d_Ru_look_189 ?_
    refine z_rf ?_
    refine z_cast (r := (R_Ce, F_Ce, 3)) rfl k_781 k_1143 (cp_24 hA (j := ne R 33 o) (by omega)) d_Ru_look_194 ?_
    refine z_cVv (c_is24 l E hA _ _ _ hf (R 35 (o)) (cn R 32) (v35 o (by omega)) (by omega) v32b (ne R 33 o) (by omega)) cb_Ru_is ci_Ru_is ln_Ru_182 (cp_26 hA hf) rfl rfl (zlq rfl) rfl (zlq rfl) (zlq rfl) d_Ru_look_197 ?_
    rw [cIs_lk]
    refine z_iconst d_Ru_look_200 ic_0 ?_
    refine z_istore d_Ru_look_201 (zlt rfl) ?_
    show zG (zcx l E b_Ru_look "PointsToRounds$Run" 6 (none) false rm_Ru_look (cp E A K X S (lkR R z)) sz (zPv (cp E A K X S (lkR R (lkF X S R z))))) 0 0 203 [some (.ref (A (26, 0))), some (.ref (A (35, t))), some (.ref (A (19, 21 * (ne R 38 t) + (ne R 39 t)))), some (.int (nI (o))), some (.ref (A (33, o))), some (.int (nI 0))] [] (cp E A K X S (lkR R ((lkA S R t (ne R 38 t) (ne R 39 t) z).1, (Zo && inS R (R 35 o) (S 24 (ne R 33 o))))))
    refine zlp (Gh := fun (kz : Nat) (Z : Bool) => zG (zcx l E b_Ru_look "PointsToRounds$Run" 6 (none) false rm_Ru_look (cp E A K X S (lkR R z)) sz (zPv (cp E A K X S (lkR R (lkF X S R z))))) 0 0 203 [some (.ref (A (26, 0))), some (.ref (A (35, t))), some (.ref (A (19, 21 * (ne R 38 t) + (ne R 39 t)))), some (.int (nI (o))), some (.ref (A (33, o))), some (.int (nI (kz)))] [] (cp E A K X S (lkR R ((lkA S R t (ne R 38 t) (ne R 39 t) z).1, Z)))) (f := fun f z => z && inS R (R 34 (8 * o + f)) (S 22 (8 * (ne R 33 o) + f))) (N := cn X 2) (x0 := (Zo && inS R (R 35 o) (S 24 (ne R 33 o)))) ?_ ?_
    rotate_left
    · intro g hg ihg
      generalize zit _ g _ = Zg at ihg ⊢
      show zG (zcx l E b_Ru_look "PointsToRounds$Run" 6 (none) false rm_Ru_look (cp E A K X S (lkR R z)) sz (zPv (cp E A K X S (lkR R (lkF X S R z))))) 0 0 203 [some (.ref (A (26, 0))), some (.ref (A (35, t))), some (.ref (A (19, 21 * (ne R 38 t) + (ne R 39 t)))), some (.int (nI (o))), some (.ref (A (33, o))), some (.int (nI (g)))] [] (cp E A K X S (lkR R ((lkA S R t (ne R 38 t) (ne R 39 t) z).1, Zg)))
      try dsimp only at ihg
      refine z_iload d_Ru_look_203 rfl ?_
      refine z_aload_n d_Ru_look_205 rfl ?_
      refine z_get fa_Ru_3 d_Ru_look_206 (cp_26 hA hf) rfl ?_
      refine z_get fa_Ru_191 d_Ru_look_209 (cp_0 hA) rfl ?_
      refine z_top h2 ?_
      refine z_icmp_ge (tgt := 250) d_Ru_look_212 (by decide) (fun c212 => absurd c212 (nI_ge hg (by omega))) (fun c212 => ?_)
      have c212n := (not_congr (nI_leI (by omega) (by omega))).mp c212
      refine z_aload_n d_Ru_look_215 rfl ?_
      refine z_aload d_Ru_look_216 rfl ?_
      refine z_get fa_Ru_125 d_Ru_look_218 (cp_33 hA (j := o) ⟨by omega, hf⟩) rfl ?_
      refine z_iload d_Ru_look_221 rfl ?_
      refine z_aaldT (g) d_Ru_look_223 (cp_34 hA (j := o) ⟨by omega, hf⟩) rfl (show g < 8 by omega) (by decide) ?_
      refine z_q (show _ = thr A (R 34 (8 * o + g)) from if_pos (show g < 8 by omega)) ?_
      refine z_aload_n d_Ru_look_224 rfl ?_
      refine z_get fa_Ru_3 d_Ru_look_225 (cp_26 hA hf) rfl ?_
      refine z_get fa_Ru_163 d_Ru_look_228 (cp_0 hA) rfl ?_
      refine z_aload d_Ru_look_231 rfl ?_
      refine z_get fa_Ru_117 d_Ru_look_233 (cp_33 hA (j := o) ⟨by omega, hf⟩) rfl ?_
      refine z_top (show _ = nI (ne R 33 o) from (v33 o (by omega)).1) ?_
      refine z_iload d_Ru_look_236 rfl ?_
      refine z_cVr (c_Se_field l E hA _ _ _ (ne R 33 o) (g) (by omega) (by omega)) cb_Se_field ci_Se_field ln_Ru_193 (cp_9 hA) rfl rfl (by simp only [List.map_cons, List.map_nil, List.sum_cons, List.sum_nil, rf_cat]; exact zlq rfl) rfl (zlq rfl) (zlq rfl) d_Ru_look_238 ?_
      refine z_rf ?_
      refine z_cVv (c_is23 l E hA _ _ _ hf (R 34 (8 * o + g)) (cn R 32) (v34 o (by omega) g (by omega)) (by omega) v32b (8 * (ne R 33 o) + (g)) (by omega)) cb_Ru_is ci_Ru_is ln_Ru_182 (cp_26 hA hf) rfl rfl (zlq rfl) rfl (zlq rfl) (zlq rfl) d_Ru_look_241 ?_
      rw [cIs_lk]
      refine z_iinc (v := nI (g + 1)) d_Ru_look_244 (zlt rfl) rfl (zinc _) ?_
      refine z_goto (tgt := 203) d_Ru_look_247 (by decide) ?_
      exact ihg
    rw [show (zit (fun f z => z && inS R (R 34 (8 * o + f)) (S 22 (8 * (ne R 33 o) + f))) (cn X 2) (Zo && inS R (R 35 o) (S 24 (ne R 33 o)))) = (lkC1 X S R o Zo) from rfl]
    show zG (zcx l E b_Ru_look "PointsToRounds$Run" 6 (none) false rm_Ru_look (cp E A K X S (lkR R z)) sz (zPv (cp E A K X S (lkR R (lkF X S R z))))) 0 0 203 [some (.ref (A (26, 0))), some (.ref (A (35, t))), some (.ref (A (19, 21 * (ne R 38 t) + (ne R 39 t)))), some (.int (nI (o))), some (.ref (A (33, o))), some (.int (nI (cn X 2)))] [] (cp E A K X S (lkR R ((lkA S R t (ne R 38 t) (ne R 39 t) z).1, (lkC1 X S R o Zo))))
    refine z_iload d_Ru_look_203 rfl ?_
    refine z_aload_n d_Ru_look_205 rfl ?_
    refine z_get fa_Ru_3 d_Ru_look_206 (cp_26 hA hf) rfl ?_
    refine z_get fa_Ru_191 d_Ru_look_209 (cp_0 hA) rfl ?_
    refine z_top h2 ?_
    refine z_icmp_ge (tgt := 250) d_Ru_look_212 (by decide) (fun c212 => ?_) (fun c212 => absurd (nI_le (Nat.le_refl _) (by omega)) c212)
    have c212n := (nI_leI (by omega) (by omega)).mp c212
    refine z_iinc (v := nI (o + 1)) d_Ru_look_250 (zlt rfl) rfl (zinc _) ?_
    refine z_goto (tgt := 140) d_Ru_look_253 (by decide) ?_
    refine z_fl 4 ?_
    refine z_fl 5 ?_
    exact iho
  rw [show (zit (fun o z => lkC1 X S R o z) (cn R 32) (lkB S R (lkA S R t (ne R 38 t) (ne R 39 t) z).2)) = (lkC X S R (lkB S R (lkA S R t (ne R 38 t) (ne R 39 t) z).2)) from rfl]
  show zG (zcx l E b_Ru_look "PointsToRounds$Run" 6 (none) false rm_Ru_look (cp E A K X S (lkR R z)) sz (zPv (cp E A K X S (lkR R (lkF X S R z))))) 0 0 140 [some (.ref (A (26, 0))), some (.ref (A (35, t))), some (.ref (A (19, 21 * (ne R 38 t) + (ne R 39 t)))), some (.int (nI (cn R 32))), none, none] [] (cp E A K X S (lkR R ((lkA S R t (ne R 38 t) (ne R 39 t) z).1, (lkC X S R (lkB S R (lkA S R t (ne R 38 t) (ne R 39 t) z).2)))))
  refine z_iload_n d_Ru_look_140 rfl ?_
  refine z_aload_n d_Ru_look_141 rfl ?_
  refine z_get fa_Ru_18 d_Ru_look_142 (cp_26 hA hf) rfl ?_
  refine z_cFi (c_sizeT l E hA _ _ _ hf) cb_AL_size cf_size k_712 (cp_27 hA hf) rfl rfl (zlq rfl) rfl (zlq rfl) (zlq rfl) d_Ru_look_145 ?_
  rw [k102]
  refine z_icmp_ge (tgt := 256) d_Ru_look_150 (by decide) (fun c150 => ?_) (fun c150 => absurd (nI_le (Nat.le_refl _) (by omega)) c150)
  have c150n := (nI_leI (by omega) (by omega)).mp c150
  exact z_vret rfl d_Ru_look_256 (zlq rfl) (zlq rfl) (⟨rfl, by unfold lkF; rw [ht]; rfl⟩)
