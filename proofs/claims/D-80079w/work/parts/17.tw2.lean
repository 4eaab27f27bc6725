/-! the twin: statements -/
def tGood (X : zSt) (k : Nat) (p q r s t : Int32) : Bool := match k with
  | 0 => tIn p (nI 6) && tIn q (X 0 0)
  | 2 => tIn p (nI 6) && tIn q (nI 6) && tIn r (X 2 0)
  | 3 => tIn p (nI 6) && tIn q (nI 6) && tIn r (X 2 0)
  | 4 => tIn p (nI 6) && tIn q (nI 6) && tIn r (X 0 0)
  | 5 => tIn p (nI 6) && tIn q (nI 4)
  | 6 => tIn p (nI 4) && tIn q (nI 6)
  | 7 => tIn p (nI 6) && tIn q (nI 6) && tIn s (nI 6) && tIn t (nI 6)
  | _ => tIn p (nI 6) && tIn q (nI 6)
def tSt1 (X : zSt) (m : Int32) (k : Nat) (p q r s t : Int32) : zSt := va_up (va_up (va_up (va_up (va_up (va_up (va_up (va_up X 8 (upd (X 8) (cn X 7) m)) 9 (upd (X 9) (cn X 7) (nI k))) 10 (upd (X 10) (cn X 7) p)) 11 (upd (X 11) (cn X 7) q)) 12 (upd (X 12) (cn X 7) r)) 13 (upd (X 13) (cn X 7) s)) 14 (upd (X 14) (cn X 7) t)) 15 (upd (X 15) (cn X 7) (-1))
def tSt2 (X : zSt) (q : Int32) (Y : zSt) : zSt := va_up (va_up (va_up Y 15 (upd (Y 15) (cn X 7) (nI (cn X 16)))) 17 (upd (Y 17) (cn X 16) q)) 16 (fun _ => nI (cn X 16 + 1))
def tSt3 (X : zSt) (m : Int32) (k : Nat) (p q r s t : Int32) : Int32 × zSt :=
  if nI (cn X 7) = nI 60 then (-4, X) else
  if nI k = 0 then (if nI (cn X 16) = nI 20 then (-4, X) else (if nI k = 0 then (nI (cn X 7), tCh (va_up (tSt2 X q (tSt1 X m k p q r s t)) 7 (fun _ => nI (cn X 7 + 1)))) else (nI (cn X 7), tCh (va_up (tSt1 X m k p q r s t) 7 (fun _ => nI (cn X 7 + 1))))))
  else (if nI k = 0 then (nI (cn X 7), tCh (va_up (tSt2 X q (tSt1 X m k p q r s t)) 7 (fun _ => nI (cn X 7 + 1)))) else (nI (cn X 7), tCh (va_up (tSt1 X m k p q r s t) 7 (fun _ => nI (cn X 7 + 1)))))
def tStm (X : zSt) (m kd p q r s t : Int32) : Int32 × zSt := if tIn m (X 4 0) = true then (if kd < 0 then (-2, X) else if kd ≤ nI 9 then (if tGood X kd.toNatClampNeg p q r s t = true then (if kd = nI 7 then (if r < 0 then (-2, X) else if r ≤ nI 3 then tSt3 X m kd.toNatClampNeg p q r s t else (-2, X)) else tSt3 X m kd.toNatClampNeg p q r s t) else (-1, X)) else (-2, X)) else (-1, X)
abbrev rm_M_isGood : Room := { frames := 1, cells := 0, slots := 0, locals := 21 }
set_option maxHeartbeats 4000000 in
set_option maxRecDepth 100000 in
theorem c_M_isGood (l : Launch) (E : zE) {A : Nat → Nat} (hA : tmI A) (X : zSt) (k : Nat) (hk : k < 10) (p q r s t : Int32) : zM l E y_M_isGood b_M_isGood 7 ((some .boolean)) rm_M_isGood [.ref (A 44), .int (nI k), .int p, .int q, .int r, .int s, .int t] (tp E A X) (zPi (bI (tGood X k p q r s t)) (tp E A X)) := by
  refine zM_w (by decide +kernel) rfl rfl (fun sz => ?_)
  rcases (show k = 0 ∨ k = 1 ∨ k = 2 ∨ k = 3 ∨ k = 4 ∨ k = 5 ∨ k = 6 ∨ k = 7 ∨ k = 8 ∨ k = 9 by omega) with rfl | rfl | rfl | rfl | rfl | rfl | rfl | rfl | rfl | rfl
  · refine z_iload_n d_M_isGood_0 rfl ?_
    refine z_tabIn (tgt := 48) d_M_isGood_1 (by decide +kernel) (by decide +kernel) (show _ = some 47 by decide +kernel) (by decide) ?_
    refine z_iload_n d_M_isGood_48 rfl ?_
    refine z_cSi (c_M_isName l E _ _) cb_M_isName cs_M_isName ln_M_141 rfl rfl (zlq rfl) rfl (zlq rfl) (zlq rfl) d_M_isGood_49 ?_
    refine z_if_eq (tgt := 67) d_M_isGood_52 (by decide) (fun c52 => ?_) (fun c52 => ?_)
    · have c52n := bI_e.mp c52
      refine z_iconst d_M_isGood_67 ic_0 ?_
      exact z_zret rfl nz_0 d_M_isGood_68 (zlq rfl) (zlq rfl) (⟨by simp [tGood, bI, nI_0, nI_one, *], rfl⟩)
    · have c52n := bI_n.mp c52
      refine z_aload_n d_M_isGood_55 rfl ?_
      refine z_iload_n d_M_isGood_56 rfl ?_
      refine z_cVi (c_M_isClass l E hA _ _) cb_M_isClass ci_M_isClass ln_M_137 (tp_o hA) rfl rfl (zlq rfl) rfl (zlq rfl) (zlq rfl) d_M_isGood_57 ?_
      refine z_if_eq (tgt := 67) d_M_isGood_60 (by decide) (fun c60 => ?_) (fun c60 => ?_)
      · have c60n := bI_e.mp c60
        refine z_iconst d_M_isGood_67 ic_0 ?_
        exact z_zret rfl nz_0 d_M_isGood_68 (zlq rfl) (zlq rfl) (⟨by simp [tGood, bI, nI_0, nI_one, *], rfl⟩)
      · have c60n := bI_n.mp c60
        refine z_iconst d_M_isGood_63 ic_1 ?_
        refine z_goto (tgt := 68) d_M_isGood_64 (by decide) ?_
        exact z_zret rfl nz_1 d_M_isGood_68 (zlq rfl) (zlq rfl) (⟨by simp [tGood, bI, nI_0, nI_one, *], rfl⟩)
  · refine z_iload_n d_M_isGood_0 rfl ?_
    refine z_tabIn (tgt := 203) d_M_isGood_1 (by decide +kernel) (by decide +kernel) (show _ = some 202 by decide +kernel) (by decide) ?_
    refine z_iload_n d_M_isGood_203 rfl ?_
    refine z_cSi (c_M_isName l E _ _) cb_M_isName cs_M_isName ln_M_141 rfl rfl (zlq rfl) rfl (zlq rfl) (zlq rfl) d_M_isGood_204 ?_
    refine z_if_eq (tgt := 221) d_M_isGood_207 (by decide) (fun c207 => ?_) (fun c207 => ?_)
    · have c207n := bI_e.mp c207
      refine z_iconst d_M_isGood_221 ic_0 ?_
      exact z_zret rfl nz_0 d_M_isGood_222 (zlq rfl) (zlq rfl) (⟨by simp [tGood, bI, nI_0, nI_one, *], rfl⟩)
    · have c207n := bI_n.mp c207
      refine z_iload_n d_M_isGood_210 rfl ?_
      refine z_cSi (c_M_isName l E _ _) cb_M_isName cs_M_isName ln_M_141 rfl rfl (zlq rfl) rfl (zlq rfl) (zlq rfl) d_M_isGood_211 ?_
      refine z_if_eq (tgt := 221) d_M_isGood_214 (by decide) (fun c214 => ?_) (fun c214 => ?_)
      · have c214n := bI_e.mp c214
        refine z_iconst d_M_isGood_221 ic_0 ?_
        exact z_zret rfl nz_0 d_M_isGood_222 (zlq rfl) (zlq rfl) (⟨by simp [tGood, bI, nI_0, nI_one, *], rfl⟩)
      · have c214n := bI_n.mp c214
        refine z_iconst d_M_isGood_217 ic_1 ?_
        refine z_goto (tgt := 222) d_M_isGood_218 (by decide) ?_
        exact z_zret rfl nz_1 d_M_isGood_222 (zlq rfl) (zlq rfl) (⟨by simp [tGood, bI, nI_0, nI_one, *], rfl⟩)
  · refine z_iload_n d_M_isGood_0 rfl ?_
    refine z_tabIn (tgt := 69) d_M_isGood_1 (by decide +kernel) (by decide +kernel) (show _ = some 68 by decide +kernel) (by decide) ?_
    refine z_iload_n d_M_isGood_69 rfl ?_
    refine z_cSi (c_M_isName l E _ _) cb_M_isName cs_M_isName ln_M_141 rfl rfl (zlq rfl) rfl (zlq rfl) (zlq rfl) d_M_isGood_70 ?_
    refine z_if_eq (tgt := 96) d_M_isGood_73 (by decide) (fun c73 => ?_) (fun c73 => ?_)
    · have c73n := bI_e.mp c73
      refine z_iconst d_M_isGood_96 ic_0 ?_
      exact z_zret rfl nz_0 d_M_isGood_97 (zlq rfl) (zlq rfl) (⟨by simp [tGood, bI, nI_0, nI_one, *], rfl⟩)
    · have c73n := bI_n.mp c73
      refine z_iload_n d_M_isGood_76 rfl ?_
      refine z_cSi (c_M_isName l E _ _) cb_M_isName cs_M_isName ln_M_141 rfl rfl (zlq rfl) rfl (zlq rfl) (zlq rfl) d_M_isGood_77 ?_
      refine z_if_eq (tgt := 96) d_M_isGood_80 (by decide) (fun c80 => ?_) (fun c80 => ?_)
      · have c80n := bI_e.mp c80
        refine z_iconst d_M_isGood_96 ic_0 ?_
        exact z_zret rfl nz_0 d_M_isGood_97 (zlq rfl) (zlq rfl) (⟨by simp [tGood, bI, nI_0, nI_one, *], rfl⟩)
      · have c80n := bI_n.mp c80
        refine z_aload_n d_M_isGood_83 rfl ?_
        refine z_iload d_M_isGood_84 rfl ?_
        refine z_cVi (c_M_isField l E hA _ _) cb_M_isField ci_M_isField ln_M_144 (tp_o hA) rfl rfl (zlq rfl) rfl (zlq rfl) (zlq rfl) d_M_isGood_86 ?_
        refine z_if_eq (tgt := 96) d_M_isGood_89 (by decide) (fun c89 => ?_) (fun c89 => ?_)
        · have c89n := bI_e.mp c89
          refine z_iconst d_M_isGood_96 ic_0 ?_
          exact z_zret rfl nz_0 d_M_isGood_97 (zlq rfl) (zlq rfl) (⟨by simp [tGood, bI, nI_0, nI_one, *], rfl⟩)
        · have c89n := bI_n.mp c89
          refine z_iconst d_M_isGood_92 ic_1 ?_
          refine z_goto (tgt := 97) d_M_isGood_93 (by decide) ?_
          exact z_zret rfl nz_1 d_M_isGood_97 (zlq rfl) (zlq rfl) (⟨by simp [tGood, bI, nI_0, nI_one, *], rfl⟩)
  · refine z_iload_n d_M_isGood_0 rfl ?_
    refine z_tabIn (tgt := 69) d_M_isGood_1 (by decide +kernel) (by decide +kernel) (show _ = some 68 by decide +kernel) (by decide) ?_
    refine z_iload_n d_M_isGood_69 rfl ?_
    refine z_cSi (c_M_isName l E _ _) cb_M_isName cs_M_isName ln_M_141 rfl rfl (zlq rfl) rfl (zlq rfl) (zlq rfl) d_M_isGood_70 ?_
    refine z_if_eq (tgt := 96) d_M_isGood_73 (by decide) (fun c73 => ?_) (fun c73 => ?_)
    · have c73n := bI_e.mp c73
      refine z_iconst d_M_isGood_96 ic_0 ?_
      exact z_zret rfl nz_0 d_M_isGood_97 (zlq rfl) (zlq rfl) (⟨by simp [tGood, bI, nI_0, nI_one, *], rfl⟩)
    · have c73n := bI_n.mp c73
      refine z_iload_n d_M_isGood_76 rfl ?_
      refine z_cSi (c_M_isName l E _ _) cb_M_isName cs_M_isName ln_M_141 rfl rfl (zlq rfl) rfl (zlq rfl) (zlq rfl) d_M_isGood_77 ?_
      refine z_if_eq (tgt := 96) d_M_isGood_80 (by decide) (fun c80 => ?_) (fun c80 => ?_)
      · have c80n := bI_e.mp c80
        refine z_iconst d_M_isGood_96 ic_0 ?_
        exact z_zret rfl nz_0 d_M_isGood_97 (zlq rfl) (zlq rfl) (⟨by simp [tGood, bI, nI_0, nI_one, *], rfl⟩)
      · have c80n := bI_n.mp c80
        refine z_aload_n d_M_isGood_83 rfl ?_
        refine z_iload d_M_isGood_84 rfl ?_
        refine z_cVi (c_M_isField l E hA _ _) cb_M_isField ci_M_isField ln_M_144 (tp_o hA) rfl rfl (zlq rfl) rfl (zlq rfl) (zlq rfl) d_M_isGood_86 ?_
        refine z_if_eq (tgt := 96) d_M_isGood_89 (by decide) (fun c89 => ?_) (fun c89 => ?_)
        · have c89n := bI_e.mp c89
          refine z_iconst d_M_isGood_96 ic_0 ?_
          exact z_zret rfl nz_0 d_M_isGood_97 (zlq rfl) (zlq rfl) (⟨by simp [tGood, bI, nI_0, nI_one, *], rfl⟩)
        · have c89n := bI_n.mp c89
          refine z_iconst d_M_isGood_92 ic_1 ?_
          refine z_goto (tgt := 97) d_M_isGood_93 (by decide) ?_
          exact z_zret rfl nz_1 d_M_isGood_97 (zlq rfl) (zlq rfl) (⟨by simp [tGood, bI, nI_0, nI_one, *], rfl⟩)
  · refine z_iload_n d_M_isGood_0 rfl ?_
    refine z_tabIn (tgt := 98) d_M_isGood_1 (by decide +kernel) (by decide +kernel) (show _ = some 97 by decide +kernel) (by decide) ?_
    refine z_iload_n d_M_isGood_98 rfl ?_
    refine z_cSi (c_M_isName l E _ _) cb_M_isName cs_M_isName ln_M_141 rfl rfl (zlq rfl) rfl (zlq rfl) (zlq rfl) d_M_isGood_99 ?_
    refine z_if_eq (tgt := 125) d_M_isGood_102 (by decide) (fun c102 => ?_) (fun c102 => ?_)
    · have c102n := bI_e.mp c102
      refine z_iconst d_M_isGood_125 ic_0 ?_
      exact z_zret rfl nz_0 d_M_isGood_126 (zlq rfl) (zlq rfl) (⟨by simp [tGood, bI, nI_0, nI_one, *], rfl⟩)
    · have c102n := bI_n.mp c102
      refine z_iload_n d_M_isGood_105 rfl ?_
      refine z_cSi (c_M_isName l E _ _) cb_M_isName cs_M_isName ln_M_141 rfl rfl (zlq rfl) rfl (zlq rfl) (zlq rfl) d_M_isGood_106 ?_
      refine z_if_eq (tgt := 125) d_M_isGood_109 (by decide) (fun c109 => ?_) (fun c109 => ?_)
      · have c109n := bI_e.mp c109
        refine z_iconst d_M_isGood_125 ic_0 ?_
        exact z_zret rfl nz_0 d_M_isGood_126 (zlq rfl) (zlq rfl) (⟨by simp [tGood, bI, nI_0, nI_one, *], rfl⟩)
      · have c109n := bI_n.mp c109
        refine z_aload_n d_M_isGood_112 rfl ?_
        refine z_iload d_M_isGood_113 rfl ?_
        refine z_cVi (c_M_isClass l E hA _ _) cb_M_isClass ci_M_isClass ln_M_137 (tp_o hA) rfl rfl (zlq rfl) rfl (zlq rfl) (zlq rfl) d_M_isGood_115 ?_
        refine z_if_eq (tgt := 125) d_M_isGood_118 (by decide) (fun c118 => ?_) (fun c118 => ?_)
        · have c118n := bI_e.mp c118
          refine z_iconst d_M_isGood_125 ic_0 ?_
          exact z_zret rfl nz_0 d_M_isGood_126 (zlq rfl) (zlq rfl) (⟨by simp [tGood, bI, nI_0, nI_one, *], rfl⟩)
        · have c118n := bI_n.mp c118
          refine z_iconst d_M_isGood_121 ic_1 ?_
          refine z_goto (tgt := 126) d_M_isGood_122 (by decide) ?_
          exact z_zret rfl nz_1 d_M_isGood_126 (zlq rfl) (zlq rfl) (⟨by simp [tGood, bI, nI_0, nI_one, *], rfl⟩)
  · refine z_iload_n d_M_isGood_0 rfl ?_
    refine z_tabIn (tgt := 127) d_M_isGood_1 (by decide +kernel) (by decide +kernel) (show _ = some 126 by decide +kernel) (by decide) ?_
    refine z_iload_n d_M_isGood_127 rfl ?_
    refine z_cSi (c_M_isName l E _ _) cb_M_isName cs_M_isName ln_M_141 rfl rfl (zlq rfl) rfl (zlq rfl) (zlq rfl) d_M_isGood_128 ?_
    refine z_if_eq (tgt := 145) d_M_isGood_131 (by decide) (fun c131 => ?_) (fun c131 => ?_)
    · have c131n := bI_e.mp c131
      refine z_iconst d_M_isGood_145 ic_0 ?_
      exact z_zret rfl nz_0 d_M_isGood_146 (zlq rfl) (zlq rfl) (⟨by simp [tGood, bI, nI_0, nI_one, *], rfl⟩)
    · have c131n := bI_n.mp c131
      refine z_iload_n d_M_isGood_134 rfl ?_
      refine z_cSi (c_M_isStatic l E _ _) cb_M_isStatic cs_M_isStatic ln_M_147 rfl rfl (zlq rfl) rfl (zlq rfl) (zlq rfl) d_M_isGood_135 ?_
      refine z_if_eq (tgt := 145) d_M_isGood_138 (by decide) (fun c138 => ?_) (fun c138 => ?_)
      · have c138n := bI_e.mp c138
        refine z_iconst d_M_isGood_145 ic_0 ?_
        exact z_zret rfl nz_0 d_M_isGood_146 (zlq rfl) (zlq rfl) (⟨by simp [tGood, bI, nI_0, nI_one, *], rfl⟩)
      · have c138n := bI_n.mp c138
        refine z_iconst d_M_isGood_141 ic_1 ?_
        refine z_goto (tgt := 146) d_M_isGood_142 (by decide) ?_
        exact z_zret rfl nz_1 d_M_isGood_146 (zlq rfl) (zlq rfl) (⟨by simp [tGood, bI, nI_0, nI_one, *], rfl⟩)
  · refine z_iload_n d_M_isGood_0 rfl ?_
    refine z_tabIn (tgt := 147) d_M_isGood_1 (by decide +kernel) (by decide +kernel) (show _ = some 146 by decide +kernel) (by decide) ?_
    refine z_iload_n d_M_isGood_147 rfl ?_
    refine z_cSi (c_M_isStatic l E _ _) cb_M_isStatic cs_M_isStatic ln_M_147 rfl rfl (zlq rfl) rfl (zlq rfl) (zlq rfl) d_M_isGood_148 ?_
    refine z_if_eq (tgt := 165) d_M_isGood_151 (by decide) (fun c151 => ?_) (fun c151 => ?_)
    · have c151n := bI_e.mp c151
      refine z_iconst d_M_isGood_165 ic_0 ?_
      exact z_zret rfl nz_0 d_M_isGood_166 (zlq rfl) (zlq rfl) (⟨by simp [tGood, bI, nI_0, nI_one, *], rfl⟩)
    · have c151n := bI_n.mp c151
      refine z_iload_n d_M_isGood_154 rfl ?_
      refine z_cSi (c_M_isName l E _ _) cb_M_isName cs_M_isName ln_M_141 rfl rfl (zlq rfl) rfl (zlq rfl) (zlq rfl) d_M_isGood_155 ?_
      refine z_if_eq (tgt := 165) d_M_isGood_158 (by decide) (fun c158 => ?_) (fun c158 => ?_)
      · have c158n := bI_e.mp c158
        refine z_iconst d_M_isGood_165 ic_0 ?_
        exact z_zret rfl nz_0 d_M_isGood_166 (zlq rfl) (zlq rfl) (⟨by simp [tGood, bI, nI_0, nI_one, *], rfl⟩)
      · have c158n := bI_n.mp c158
        refine z_iconst d_M_isGood_161 ic_1 ?_
        refine z_goto (tgt := 166) d_M_isGood_162 (by decide) ?_
        exact z_zret rfl nz_1 d_M_isGood_166 (zlq rfl) (zlq rfl) (⟨by simp [tGood, bI, nI_0, nI_one, *], rfl⟩)
  · refine z_iload_n d_M_isGood_0 rfl ?_
    refine z_tabIn (tgt := 167) d_M_isGood_1 (by decide +kernel) (by decide +kernel) (show _ = some 166 by decide +kernel) (by decide) ?_
    refine z_iload_n d_M_isGood_167 rfl ?_
    refine z_cSi (c_M_isName l E _ _) cb_M_isName cs_M_isName ln_M_141 rfl rfl (zlq rfl) rfl (zlq rfl) (zlq rfl) d_M_isGood_168 ?_
    refine z_if_eq (tgt := 201) d_M_isGood_171 (by decide) (fun c171 => ?_) (fun c171 => ?_)
    · have c171n := bI_e.mp c171
      refine z_iconst d_M_isGood_201 ic_0 ?_
      exact z_zret rfl nz_0 d_M_isGood_202 (zlq rfl) (zlq rfl) (⟨by simp [tGood, bI, nI_0, nI_one, *], rfl⟩)
    · have c171n := bI_n.mp c171
      refine z_iload_n d_M_isGood_174 rfl ?_
      refine z_cSi (c_M_isName l E _ _) cb_M_isName cs_M_isName ln_M_141 rfl rfl (zlq rfl) rfl (zlq rfl) (zlq rfl) d_M_isGood_175 ?_
      refine z_if_eq (tgt := 201) d_M_isGood_178 (by decide) (fun c178 => ?_) (fun c178 => ?_)
      · have c178n := bI_e.mp c178
        refine z_iconst d_M_isGood_201 ic_0 ?_
        exact z_zret rfl nz_0 d_M_isGood_202 (zlq rfl) (zlq rfl) (⟨by simp [tGood, bI, nI_0, nI_one, *], rfl⟩)
      · have c178n := bI_n.mp c178
        refine z_iload d_M_isGood_181 rfl ?_
        refine z_cSi (c_M_isName l E _ _) cb_M_isName cs_M_isName ln_M_141 rfl rfl (zlq rfl) rfl (zlq rfl) (zlq rfl) d_M_isGood_183 ?_
        refine z_if_eq (tgt := 201) d_M_isGood_186 (by decide) (fun c186 => ?_) (fun c186 => ?_)
        · have c186n := bI_e.mp c186
          refine z_iconst d_M_isGood_201 ic_0 ?_
          exact z_zret rfl nz_0 d_M_isGood_202 (zlq rfl) (zlq rfl) (⟨by simp [tGood, bI, nI_0, nI_one, *], rfl⟩)
        · have c186n := bI_n.mp c186
          refine z_iload d_M_isGood_189 rfl ?_
          refine z_cSi (c_M_isName l E _ _) cb_M_isName cs_M_isName ln_M_141 rfl rfl (zlq rfl) rfl (zlq rfl) (zlq rfl) d_M_isGood_191 ?_
          refine z_if_eq (tgt := 201) d_M_isGood_194 (by decide) (fun c194 => ?_) (fun c194 => ?_)
          · have c194n := bI_e.mp c194
            refine z_iconst d_M_isGood_201 ic_0 ?_
            exact z_zret rfl nz_0 d_M_isGood_202 (zlq rfl) (zlq rfl) (⟨by simp [tGood, bI, nI_0, nI_one, *], rfl⟩)
          · have c194n := bI_n.mp c194
            refine z_iconst d_M_isGood_197 ic_1 ?_
            refine z_goto (tgt := 202) d_M_isGood_198 (by decide) ?_
            exact z_zret rfl nz_1 d_M_isGood_202 (zlq rfl) (zlq rfl) (⟨by simp [tGood, bI, nI_0, nI_one, *], rfl⟩)
  · refine z_iload_n d_M_isGood_0 rfl ?_
    refine z_tabOut (tgt := 203) d_M_isGood_1 (by decide +kernel) (by decide) ?_
    refine z_iload_n d_M_isGood_203 rfl ?_
    refine z_cSi (c_M_isName l E _ _) cb_M_isName cs_M_isName ln_M_141 rfl rfl (zlq rfl) rfl (zlq rfl) (zlq rfl) d_M_isGood_204 ?_
    refine z_if_eq (tgt := 221) d_M_isGood_207 (by decide) (fun c207 => ?_) (fun c207 => ?_)
    · have c207n := bI_e.mp c207
      refine z_iconst d_M_isGood_221 ic_0 ?_
      exact z_zret rfl nz_0 d_M_isGood_222 (zlq rfl) (zlq rfl) (⟨by simp [tGood, bI, nI_0, nI_one, *], rfl⟩)
    · have c207n := bI_n.mp c207
      refine z_iload_n d_M_isGood_210 rfl ?_
      refine z_cSi (c_M_isName l E _ _) cb_M_isName cs_M_isName ln_M_141 rfl rfl (zlq rfl) rfl (zlq rfl) (zlq rfl) d_M_isGood_211 ?_
      refine z_if_eq (tgt := 221) d_M_isGood_214 (by decide) (fun c214 => ?_) (fun c214 => ?_)
      · have c214n := bI_e.mp c214
        refine z_iconst d_M_isGood_221 ic_0 ?_
        exact z_zret rfl nz_0 d_M_isGood_222 (zlq rfl) (zlq rfl) (⟨by simp [tGood, bI, nI_0, nI_one, *], rfl⟩)
      · have c214n := bI_n.mp c214
        refine z_iconst d_M_isGood_217 ic_1 ?_
        refine z_goto (tgt := 222) d_M_isGood_218 (by decide) ?_
        exact z_zret rfl nz_1 d_M_isGood_222 (zlq rfl) (zlq rfl) (⟨by simp [tGood, bI, nI_0, nI_one, *], rfl⟩)
  · refine z_iload_n d_M_isGood_0 rfl ?_
    refine z_tabOut (tgt := 203) d_M_isGood_1 (by decide +kernel) (by decide) ?_
    refine z_iload_n d_M_isGood_203 rfl ?_
    refine z_cSi (c_M_isName l E _ _) cb_M_isName cs_M_isName ln_M_141 rfl rfl (zlq rfl) rfl (zlq rfl) (zlq rfl) d_M_isGood_204 ?_
    refine z_if_eq (tgt := 221) d_M_isGood_207 (by decide) (fun c207 => ?_) (fun c207 => ?_)
    · have c207n := bI_e.mp c207
      refine z_iconst d_M_isGood_221 ic_0 ?_
      exact z_zret rfl nz_0 d_M_isGood_222 (zlq rfl) (zlq rfl) (⟨by simp [tGood, bI, nI_0, nI_one, *], rfl⟩)
    · have c207n := bI_n.mp c207
      refine z_iload_n d_M_isGood_210 rfl ?_
      refine z_cSi (c_M_isName l E _ _) cb_M_isName cs_M_isName ln_M_141 rfl rfl (zlq rfl) rfl (zlq rfl) (zlq rfl) d_M_isGood_211 ?_
      refine z_if_eq (tgt := 221) d_M_isGood_214 (by decide) (fun c214 => ?_) (fun c214 => ?_)
      · have c214n := bI_e.mp c214
        refine z_iconst d_M_isGood_221 ic_0 ?_
        exact z_zret rfl nz_0 d_M_isGood_222 (zlq rfl) (zlq rfl) (⟨by simp [tGood, bI, nI_0, nI_one, *], rfl⟩)
      · have c214n := bI_n.mp c214
        refine z_iconst d_M_isGood_217 ic_1 ?_
        refine z_goto (tgt := 222) d_M_isGood_218 (by decide) ?_
        exact z_zret rfl nz_1 d_M_isGood_222 (zlq rfl) (zlq rfl) (⟨by simp [tGood, bI, nI_0, nI_one, *], rfl⟩)
abbrev rm_M_statement : Room := { frames := 2, cells := 0, slots := 0, locals := 47 }
set_option maxHeartbeats 4000000 in
set_option maxRecDepth 100000 in
theorem c_M_statement (l : Launch) (E : zE) {A : Nat → Nat} (hA : tmI A) (X : zSt) (hX : tInv X) (m kd p q r s t : Int32) : zM l E y_M_statement b_M_statement 9 ((some .int)) rm_M_statement [.ref (A 44), .int m, .int kd, .int p, .int q, .int r, .int s, .int t] (tp E A X) (zPi (tStm X m kd p q r s t).1 (tp E A (tStm X m kd p q r s t).2)) := by
  refine zM_w (by decide +kernel) rfl rfl (fun sz => ?_)
  obtain ⟨⟨⟨h0, b0⟩, ⟨h2, b2⟩, ⟨h4, b4⟩, ⟨h7, b7⟩, ⟨h16, b16⟩⟩, h18, h19, hp, hf, hs, hst⟩ := id hX
  refine z_aload_n d_M_statement_0 rfl ?_
  refine z_iload_n d_M_statement_1 rfl ?_
  refine z_cVi (c_M_isMethod l E hA _ _) cb_M_isMethod ci_M_isMethod ln_M_150 (tp_o hA) rfl rfl (zlq rfl) rfl (zlq rfl) (zlq rfl) d_M_statement_2 ?_
  refine z_if_ne (tgt := 10) d_M_statement_5 (by decide) (fun c5 => ?_) (fun c5 => ?_)
  · have c5n := bI_n.mp c5
    refine z_iload_n d_M_statement_10 rfl ?_
    refine z_if_lt (tgt := 20) d_M_statement_11 (by decide) (fun c11 => ?_) (fun c11 => ?_)
    · refine z_bipush (v := -2) d_M_statement_20 bp_m2 ?_
      exact z_iret rfl d_M_statement_22 (zlq rfl) (zlq rfl) (by unfold tStm; rw [if_pos c5n, if_pos c11]; exact ⟨rfl, rfl⟩)
    · refine z_iload_n d_M_statement_14 rfl ?_
      refine z_bipush d_M_statement_15 bp_9 ?_
      refine z_icmp_le (tgt := 23) d_M_statement_17 (by decide) (fun c17 => ?_) (fun c17 => ?_)
      · obtain ⟨κ, hκ, rfl⟩ : ∃ j : Nat, j ≤ 9 ∧ kd = nI j := nI_of2 (M := nI 9) (by decide +kernel) c11 c17
        refine z_aload_n d_M_statement_23 rfl ?_
        refine z_iload_n d_M_statement_24 rfl ?_
        refine z_iload_n d_M_statement_25 rfl ?_
        refine z_iload d_M_statement_26 rfl ?_
        refine z_iload d_M_statement_28 rfl ?_
        refine z_iload d_M_statement_30 rfl ?_
        refine z_iload d_M_statement_32 rfl ?_
        refine z_cVi (c_M_isGood l E hA _ (κ) (by omega) _ _ _ _ _) cb_M_isGood ci_M_isGood ln_M_153 (tp_o hA) rfl rfl (zlq rfl) rfl (zlq rfl) (zlq rfl) d_M_statement_34 ?_
        refine z_if_ne (tgt := 42) d_M_statement_37 (by decide) (fun c37 => ?_) (fun c37 => ?_)
        · have c37n := bI_n.mp c37
          refine z_iload_n d_M_statement_42 rfl ?_
          refine z_bipush d_M_statement_43 bp_7 ?_
          refine z_icmp_ne (tgt := 62) d_M_statement_45 (by decide) (fun c45 => ?_) (fun c45 => ?_)
          · have c45n := (not_congr (nI_eq (by omega) (by omega))).mp c45
            refine z_aload_n d_M_statement_62 rfl ?_
            refine z_get fa_M_157 d_M_statement_63 (tp_o hA) rfl ?_
            refine z_top h7 ?_
            refine z_bipush d_M_statement_66 bp_60 ?_
            refine z_icmp_eq (tgt := 84) d_M_statement_68 (by decide) (fun c68 => ?_) (fun c68 => ?_)
            · have c68n := (nI_eq (by omega) (by omega)).mp c68
              refine z_bipush (v := -4) d_M_statement_84 bp_m4 ?_
              exact z_iret rfl d_M_statement_86 (zlq rfl) (zlq rfl) (by unfold tStm; rw [nI_clamp (show κ < 2 ^ 31 by omega)]; rw [if_pos c5n, if_neg c11, if_pos c17, if_pos c37n, if_neg c45]; unfold tSt3; rw [if_pos c68]; exact ⟨rfl, rfl⟩)
            · have c68n := (not_congr (nI_eq (by omega) (by omega))).mp c68
              refine z_iload_n d_M_statement_71 rfl ?_
              refine z_if_ne (tgt := 87) d_M_statement_72 (by decide) (fun c72 => ?_) (fun c72 => ?_)
              · have c72n := (not_congr (nI_z (by omega))).mp c72
                refine z_aload_n d_M_statement_87 rfl ?_
                refine z_get fa_M_157 d_M_statement_88 (tp_o hA) rfl ?_
                refine z_top h7 ?_
                refine z_istore d_M_statement_91 (zlt rfl) ?_
                refine z_aload_n d_M_statement_93 rfl ?_
                refine z_get fa_M_22 d_M_statement_94 (tp_o hA) rfl ?_
                refine z_iload d_M_statement_97 rfl ?_
                refine z_iload_n d_M_statement_99 rfl ?_
                refine t_ast (kf := 8) (j := cn X 7) d_M_statement_100 hA rfl rfl (show cn X 7 < 60 from by omega) (by decide) ?_
                refine z_aload_n d_M_statement_101 rfl ?_
                refine z_get fa_M_25 d_M_statement_102 (tp_o hA) rfl ?_
                refine z_iload d_M_statement_105 rfl ?_
                refine z_iload_n d_M_statement_107 rfl ?_
                refine t_ast (kf := 9) (j := cn X 7) d_M_statement_108 hA rfl rfl (show cn X 7 < 60 from by omega) (by decide) ?_
                refine z_aload_n d_M_statement_109 rfl ?_
                refine z_get fa_M_28 d_M_statement_110 (tp_o hA) rfl ?_
                refine z_iload d_M_statement_113 rfl ?_
                refine z_iload_n d_M_statement_115 rfl ?_
                refine t_ast (kf := 10) (j := cn X 7) d_M_statement_116 hA rfl rfl (show cn X 7 < 60 from by omega) (by decide) ?_
                refine z_aload_n d_M_statement_117 rfl ?_
                refine z_get fa_M_31 d_M_statement_118 (tp_o hA) rfl ?_
                refine z_iload d_M_statement_121 rfl ?_
                refine z_iload d_M_statement_123 rfl ?_
                refine t_ast (kf := 11) (j := cn X 7) d_M_statement_125 hA rfl rfl (show cn X 7 < 60 from by omega) (by decide) ?_
                refine z_aload_n d_M_statement_126 rfl ?_
                refine z_get fa_M_34 d_M_statement_127 (tp_o hA) rfl ?_
                refine z_iload d_M_statement_130 rfl ?_
                refine z_iload d_M_statement_132 rfl ?_
                refine t_ast (kf := 12) (j := cn X 7) d_M_statement_134 hA rfl rfl (show cn X 7 < 60 from by omega) (by decide) ?_
                refine z_aload_n d_M_statement_135 rfl ?_
                refine z_get fa_M_37 d_M_statement_136 (tp_o hA) rfl ?_
                refine z_iload d_M_statement_139 rfl ?_
                refine z_iload d_M_statement_141 rfl ?_
                refine t_ast (kf := 13) (j := cn X 7) d_M_statement_143 hA rfl rfl (show cn X 7 < 60 from by omega) (by decide) ?_
                refine z_aload_n d_M_statement_144 rfl ?_
                refine z_get fa_M_40 d_M_statement_145 (tp_o hA) rfl ?_
                refine z_iload d_M_statement_148 rfl ?_
                refine z_iload d_M_statement_150 rfl ?_
                refine t_ast (kf := 14) (j := cn X 7) d_M_statement_152 hA rfl rfl (show cn X 7 < 60 from by omega) (by decide) ?_
                refine z_aload_n d_M_statement_153 rfl ?_
                refine z_get fa_M_43 d_M_statement_154 (tp_o hA) rfl ?_
                refine z_iload d_M_statement_157 rfl ?_
                refine z_iconst (v := -1) d_M_statement_159 ic_m1 ?_
                refine t_ast (kf := 15) (j := cn X 7) d_M_statement_160 hA rfl rfl (show cn X 7 < 60 from by omega) (by decide) ?_
                refine z_iload_n d_M_statement_161 rfl ?_
                refine z_if_ne (tgt := 197) d_M_statement_162 (by decide) (fun c162 => ?_) (fun c162 => ?_)
                · have c162n := (not_congr (nI_z (by omega))).mp c162
                  refine z_aload_n d_M_statement_197 rfl ?_
                  refine z_dup d_M_statement_198 rfl ?_
                  refine z_get fa_M_157 d_M_statement_199 (tp_o hA) rfl ?_
                  refine z_top h7 ?_
                  refine z_iconst d_M_statement_202 ic_1 ?_
                  refine z_iadd d_M_statement_203 ?_
                  refine z_top (nI_add (cn X 7) (1)) ?_
                  refine t_put fp_M_157 d_M_statement_204 hA (by decide) rfl ?_
                  refine z_aload_n d_M_statement_207 rfl ?_
                  refine z_cVv (c_M_change l E hA _) cb_M_change ci_M_change ln_M_134 (tp_o hA) rfl rfl (zlq rfl) rfl (zlq rfl) (zlq rfl) d_M_statement_208 ?_
                  refine z_iload d_M_statement_211 rfl ?_
                  exact z_iret rfl d_M_statement_213 (zlq rfl) (zlq rfl) (by unfold tStm; rw [nI_clamp (show κ < 2 ^ 31 by omega)]; rw [if_pos c5n, if_neg c11, if_pos c17, if_pos c37n, if_neg c45]; unfold tSt3; rw [if_neg c68, if_neg c72, if_neg c162]; exact ⟨rfl, rfl⟩)
                · have c162n := (nI_z (by omega)).mp c162
                  refine z_aload_n d_M_statement_165 rfl ?_
                  refine z_get fa_M_43 d_M_statement_166 (tp_o hA) rfl ?_
                  refine z_iload d_M_statement_169 rfl ?_
                  refine z_aload_n d_M_statement_171 rfl ?_
                  refine z_get fa_M_160 d_M_statement_172 (tp_o hA) rfl ?_
                  refine z_top h16 ?_
                  refine t_ast (kf := 15) (j := cn X 7) d_M_statement_175 hA rfl rfl (show cn X 7 < 60 from by omega) (by decide) ?_
                  refine z_aload_n d_M_statement_176 rfl ?_
                  refine z_get fa_M_46 d_M_statement_177 (tp_o hA) rfl ?_
                  refine z_aload_n d_M_statement_180 rfl ?_
                  refine z_get fa_M_160 d_M_statement_181 (tp_o hA) rfl ?_
                  refine z_top h16 ?_
                  refine z_iload d_M_statement_184 rfl ?_
                  refine t_ast (kf := 17) (j := cn X 16) d_M_statement_186 hA rfl rfl (show cn X 16 < 20 from by omega) (by decide) ?_
                  refine z_aload_n d_M_statement_187 rfl ?_
                  refine z_dup d_M_statement_188 rfl ?_
                  refine z_get fa_M_160 d_M_statement_189 (tp_o hA) rfl ?_
                  refine z_top h16 ?_
                  refine z_iconst d_M_statement_192 ic_1 ?_
                  refine z_iadd d_M_statement_193 ?_
                  refine z_top (nI_add (cn X 16) (1)) ?_
                  refine t_put fp_M_160 d_M_statement_194 hA (by decide) rfl ?_
                  refine z_aload_n d_M_statement_197 rfl ?_
                  refine z_dup d_M_statement_198 rfl ?_
                  refine z_get fa_M_157 d_M_statement_199 (tp_o hA) rfl ?_
                  refine z_top h7 ?_
                  refine z_iconst d_M_statement_202 ic_1 ?_
                  refine z_iadd d_M_statement_203 ?_
                  refine z_top (nI_add (cn X 7) (1)) ?_
                  refine t_put fp_M_157 d_M_statement_204 hA (by decide) rfl ?_
                  refine z_aload_n d_M_statement_207 rfl ?_
                  refine z_cVv (c_M_change l E hA _) cb_M_change ci_M_change ln_M_134 (tp_o hA) rfl rfl (zlq rfl) rfl (zlq rfl) (zlq rfl) d_M_statement_208 ?_
                  refine z_iload d_M_statement_211 rfl ?_
                  exact z_iret rfl d_M_statement_213 (zlq rfl) (zlq rfl) (by unfold tStm; rw [nI_clamp (show κ < 2 ^ 31 by omega)]; rw [if_pos c5n, if_neg c11, if_pos c17, if_pos c37n, if_neg c45]; unfold tSt3; rw [if_neg c68, if_neg c72, if_pos c162]; exact ⟨rfl, rfl⟩)
              · have c72n := (nI_z (by omega)).mp c72
                refine z_aload_n d_M_statement_75 rfl ?_
                refine z_get fa_M_160 d_M_statement_76 (tp_o hA) rfl ?_
                refine z_top h16 ?_
                refine z_bipush d_M_statement_79 bp_20 ?_
                refine z_icmp_ne (tgt := 87) d_M_statement_81 (by decide) (fun c81 => ?_) (fun c81 => ?_)
                · have c81n := (not_congr (nI_eq (by omega) (by omega))).mp c81
                  refine z_aload_n d_M_statement_87 rfl ?_
                  refine z_get fa_M_157 d_M_statement_88 (tp_o hA) rfl ?_
                  refine z_top h7 ?_
                  refine z_istore d_M_statement_91 (zlt rfl) ?_
                  refine z_aload_n d_M_statement_93 rfl ?_
                  refine z_get fa_M_22 d_M_statement_94 (tp_o hA) rfl ?_
                  refine z_iload d_M_statement_97 rfl ?_
                  refine z_iload_n d_M_statement_99 rfl ?_
                  refine t_ast (kf := 8) (j := cn X 7) d_M_statement_100 hA rfl rfl (show cn X 7 < 60 from by omega) (by decide) ?_
                  refine z_aload_n d_M_statement_101 rfl ?_
                  refine z_get fa_M_25 d_M_statement_102 (tp_o hA) rfl ?_
                  refine z_iload d_M_statement_105 rfl ?_
                  refine z_iload_n d_M_statement_107 rfl ?_
                  refine t_ast (kf := 9) (j := cn X 7) d_M_statement_108 hA rfl rfl (show cn X 7 < 60 from by omega) (by decide) ?_
                  refine z_aload_n d_M_statement_109 rfl ?_
                  refine z_get fa_M_28 d_M_statement_110 (tp_o hA) rfl ?_
                  refine z_iload d_M_statement_113 rfl ?_
                  refine z_iload_n d_M_statement_115 rfl ?_
                  refine t_ast (kf := 10) (j := cn X 7) d_M_statement_116 hA rfl rfl (show cn X 7 < 60 from by omega) (by decide) ?_
                  refine z_aload_n d_M_statement_117 rfl ?_
                  refine z_get fa_M_31 d_M_statement_118 (tp_o hA) rfl ?_
                  refine z_iload d_M_statement_121 rfl ?_
                  refine z_iload d_M_statement_123 rfl ?_
                  refine t_ast (kf := 11) (j := cn X 7) d_M_statement_125 hA rfl rfl (show cn X 7 < 60 from by omega) (by decide) ?_
                  refine z_aload_n d_M_statement_126 rfl ?_
                  refine z_get fa_M_34 d_M_statement_127 (tp_o hA) rfl ?_
                  refine z_iload d_M_statement_130 rfl ?_
                  refine z_iload d_M_statement_132 rfl ?_
                  refine t_ast (kf := 12) (j := cn X 7) d_M_statement_134 hA rfl rfl (show cn X 7 < 60 from by omega) (by decide) ?_
                  refine z_aload_n d_M_statement_135 rfl ?_
                  refine z_get fa_M_37 d_M_statement_136 (tp_o hA) rfl ?_
                  refine z_iload d_M_statement_139 rfl ?_
                  refine z_iload d_M_statement_141 rfl ?_
                  refine t_ast (kf := 13) (j := cn X 7) d_M_statement_143 hA rfl rfl (show cn X 7 < 60 from by omega) (by decide) ?_
                  refine z_aload_n d_M_statement_144 rfl ?_
                  refine z_get fa_M_40 d_M_statement_145 (tp_o hA) rfl ?_
                  refine z_iload d_M_statement_148 rfl ?_
                  refine z_iload d_M_statement_150 rfl ?_
                  refine t_ast (kf := 14) (j := cn X 7) d_M_statement_152 hA rfl rfl (show cn X 7 < 60 from by omega) (by decide) ?_
                  refine z_aload_n d_M_statement_153 rfl ?_
                  refine z_get fa_M_43 d_M_statement_154 (tp_o hA) rfl ?_
                  refine z_iload d_M_statement_157 rfl ?_
                  refine z_iconst (v := -1) d_M_statement_159 ic_m1 ?_
                  refine t_ast (kf := 15) (j := cn X 7) d_M_statement_160 hA rfl rfl (show cn X 7 < 60 from by omega) (by decide) ?_
                  refine z_iload_n d_M_statement_161 rfl ?_
                  refine z_if_ne (tgt := 197) d_M_statement_162 (by decide) (fun c162 => ?_) (fun c162 => ?_)
                  · have c162n := (not_congr (nI_z (by omega))).mp c162
                    refine z_aload_n d_M_statement_197 rfl ?_
                    refine z_dup d_M_statement_198 rfl ?_
                    refine z_get fa_M_157 d_M_statement_199 (tp_o hA) rfl ?_
                    refine z_top h7 ?_
                    refine z_iconst d_M_statement_202 ic_1 ?_
                    refine z_iadd d_M_statement_203 ?_
                    refine z_top (nI_add (cn X 7) (1)) ?_
                    refine t_put fp_M_157 d_M_statement_204 hA (by decide) rfl ?_
                    refine z_aload_n d_M_statement_207 rfl ?_
                    refine z_cVv (c_M_change l E hA _) cb_M_change ci_M_change ln_M_134 (tp_o hA) rfl rfl (zlq rfl) rfl (zlq rfl) (zlq rfl) d_M_statement_208 ?_
                    refine z_iload d_M_statement_211 rfl ?_
                    exact z_iret rfl d_M_statement_213 (zlq rfl) (zlq rfl) (by unfold tStm; rw [nI_clamp (show κ < 2 ^ 31 by omega)]; rw [if_pos c5n, if_neg c11, if_pos c17, if_pos c37n, if_neg c45]; unfold tSt3; rw [if_neg c68, if_pos c72, if_neg c81, if_neg c162]; exact ⟨rfl, rfl⟩)
                  · have c162n := (nI_z (by omega)).mp c162
                    refine z_aload_n d_M_statement_165 rfl ?_
                    refine z_get fa_M_43 d_M_statement_166 (tp_o hA) rfl ?_
                    refine z_iload d_M_statement_169 rfl ?_
                    refine z_aload_n d_M_statement_171 rfl ?_
                    refine z_get fa_M_160 d_M_statement_172 (tp_o hA) rfl ?_
                    refine z_top h16 ?_
                    refine t_ast (kf := 15) (j := cn X 7) d_M_statement_175 hA rfl rfl (show cn X 7 < 60 from by omega) (by decide) ?_
                    refine z_aload_n d_M_statement_176 rfl ?_
                    refine z_get fa_M_46 d_M_statement_177 (tp_o hA) rfl ?_
                    refine z_aload_n d_M_statement_180 rfl ?_
                    refine z_get fa_M_160 d_M_statement_181 (tp_o hA) rfl ?_
                    refine z_top h16 ?_
                    refine z_iload d_M_statement_184 rfl ?_
                    refine t_ast (kf := 17) (j := cn X 16) d_M_statement_186 hA rfl rfl (show cn X 16 < 20 from by omega) (by decide) ?_
                    refine z_aload_n d_M_statement_187 rfl ?_
                    refine z_dup d_M_statement_188 rfl ?_
                    refine z_get fa_M_160 d_M_statement_189 (tp_o hA) rfl ?_
                    refine z_top h16 ?_
                    refine z_iconst d_M_statement_192 ic_1 ?_
                    refine z_iadd d_M_statement_193 ?_
                    refine z_top (nI_add (cn X 16) (1)) ?_
                    refine t_put fp_M_160 d_M_statement_194 hA (by decide) rfl ?_
                    refine z_aload_n d_M_statement_197 rfl ?_
                    refine z_dup d_M_statement_198 rfl ?_
                    refine z_get fa_M_157 d_M_statement_199 (tp_o hA) rfl ?_
                    refine z_top h7 ?_
                    refine z_iconst d_M_statement_202 ic_1 ?_
                    refine z_iadd d_M_statement_203 ?_
                    refine z_top (nI_add (cn X 7) (1)) ?_
                    refine t_put fp_M_157 d_M_statement_204 hA (by decide) rfl ?_
                    refine z_aload_n d_M_statement_207 rfl ?_
                    refine z_cVv (c_M_change l E hA _) cb_M_change ci_M_change ln_M_134 (tp_o hA) rfl rfl (zlq rfl) rfl (zlq rfl) (zlq rfl) d_M_statement_208 ?_
                    refine z_iload d_M_statement_211 rfl ?_
                    exact z_iret rfl d_M_statement_213 (zlq rfl) (zlq rfl) (by unfold tStm; rw [nI_clamp (show κ < 2 ^ 31 by omega)]; rw [if_pos c5n, if_neg c11, if_pos c17, if_pos c37n, if_neg c45]; unfold tSt3; rw [if_neg c68, if_pos c72, if_neg c81, if_pos c162]; exact ⟨rfl, rfl⟩)
                · have c81n := (nI_eq (by omega) (by omega)).mp c81
                  refine z_bipush (v := -4) d_M_statement_84 bp_m4 ?_
                  exact z_iret rfl d_M_statement_86 (zlq rfl) (zlq rfl) (by unfold tStm; rw [nI_clamp (show κ < 2 ^ 31 by omega)]; rw [if_pos c5n, if_neg c11, if_pos c17, if_pos c37n, if_neg c45]; unfold tSt3; rw [if_neg c68, if_pos c72, if_pos c81]; exact ⟨rfl, rfl⟩)
          · have c45n := (nI_eq (by omega) (by omega)).mp c45
            refine z_iload d_M_statement_48 rfl ?_
            refine z_if_lt (tgt := 59) d_M_statement_50 (by decide) (fun c50 => ?_) (fun c50 => ?_)
            · refine z_bipush (v := -2) d_M_statement_59 bp_m2 ?_
              exact z_iret rfl d_M_statement_61 (zlq rfl) (zlq rfl) (by unfold tStm; rw [nI_clamp (show κ < 2 ^ 31 by omega)]; rw [if_pos c5n, if_neg c11, if_pos c17, if_pos c37n, if_pos c45, if_pos c50]; exact ⟨rfl, rfl⟩)
            · refine z_iload d_M_statement_53 rfl ?_
              refine z_iconst d_M_statement_55 ic_3 ?_
              refine z_icmp_le (tgt := 62) d_M_statement_56 (by decide) (fun c56 => ?_) (fun c56 => ?_)
              · refine z_aload_n d_M_statement_62 rfl ?_
                refine z_get fa_M_157 d_M_statement_63 (tp_o hA) rfl ?_
                refine z_top h7 ?_
                refine z_bipush d_M_statement_66 bp_60 ?_
                refine z_icmp_eq (tgt := 84) d_M_statement_68 (by decide) (fun c68 => ?_) (fun c68 => ?_)
                · have c68n := (nI_eq (by omega) (by omega)).mp c68
                  refine z_bipush (v := -4) d_M_statement_84 bp_m4 ?_
                  exact z_iret rfl d_M_statement_86 (zlq rfl) (zlq rfl) (by unfold tStm; rw [nI_clamp (show κ < 2 ^ 31 by omega)]; rw [if_pos c5n, if_neg c11, if_pos c17, if_pos c37n, if_pos c45, if_neg c50, if_pos c56]; unfold tSt3; rw [if_pos c68]; exact ⟨rfl, rfl⟩)
                · have c68n := (not_congr (nI_eq (by omega) (by omega))).mp c68
                  refine z_iload_n d_M_statement_71 rfl ?_
                  refine z_if_ne (tgt := 87) d_M_statement_72 (by decide) (fun c72 => ?_) (fun c72 => ?_)
                  · have c72n := (not_congr (nI_z (by omega))).mp c72
                    refine z_aload_n d_M_statement_87 rfl ?_
                    refine z_get fa_M_157 d_M_statement_88 (tp_o hA) rfl ?_
                    refine z_top h7 ?_
                    refine z_istore d_M_statement_91 (zlt rfl) ?_
                    refine z_aload_n d_M_statement_93 rfl ?_
                    refine z_get fa_M_22 d_M_statement_94 (tp_o hA) rfl ?_
                    refine z_iload d_M_statement_97 rfl ?_
                    refine z_iload_n d_M_statement_99 rfl ?_
                    refine t_ast (kf := 8) (j := cn X 7) d_M_statement_100 hA rfl rfl (show cn X 7 < 60 from by omega) (by decide) ?_
                    refine z_aload_n d_M_statement_101 rfl ?_
                    refine z_get fa_M_25 d_M_statement_102 (tp_o hA) rfl ?_
                    refine z_iload d_M_statement_105 rfl ?_
                    refine z_iload_n d_M_statement_107 rfl ?_
                    refine t_ast (kf := 9) (j := cn X 7) d_M_statement_108 hA rfl rfl (show cn X 7 < 60 from by omega) (by decide) ?_
                    refine z_aload_n d_M_statement_109 rfl ?_
                    refine z_get fa_M_28 d_M_statement_110 (tp_o hA) rfl ?_
                    refine z_iload d_M_statement_113 rfl ?_
                    refine z_iload_n d_M_statement_115 rfl ?_
                    refine t_ast (kf := 10) (j := cn X 7) d_M_statement_116 hA rfl rfl (show cn X 7 < 60 from by omega) (by decide) ?_
                    refine z_aload_n d_M_statement_117 rfl ?_
                    refine z_get fa_M_31 d_M_statement_118 (tp_o hA) rfl ?_
                    refine z_iload d_M_statement_121 rfl ?_
                    refine z_iload d_M_statement_123 rfl ?_
                    refine t_ast (kf := 11) (j := cn X 7) d_M_statement_125 hA rfl rfl (show cn X 7 < 60 from by omega) (by decide) ?_
                    refine z_aload_n d_M_statement_126 rfl ?_
                    refine z_get fa_M_34 d_M_statement_127 (tp_o hA) rfl ?_
                    refine z_iload d_M_statement_130 rfl ?_
                    refine z_iload d_M_statement_132 rfl ?_
                    refine t_ast (kf := 12) (j := cn X 7) d_M_statement_134 hA rfl rfl (show cn X 7 < 60 from by omega) (by decide) ?_
                    refine z_aload_n d_M_statement_135 rfl ?_
                    refine z_get fa_M_37 d_M_statement_136 (tp_o hA) rfl ?_
                    refine z_iload d_M_statement_139 rfl ?_
                    refine z_iload d_M_statement_141 rfl ?_
                    refine t_ast (kf := 13) (j := cn X 7) d_M_statement_143 hA rfl rfl (show cn X 7 < 60 from by omega) (by decide) ?_
                    refine z_aload_n d_M_statement_144 rfl ?_
                    refine z_get fa_M_40 d_M_statement_145 (tp_o hA) rfl ?_
                    refine z_iload d_M_statement_148 rfl ?_
                    refine z_iload d_M_statement_150 rfl ?_
                    refine t_ast (kf := 14) (j := cn X 7) d_M_statement_152 hA rfl rfl (show cn X 7 < 60 from by omega) (by decide) ?_
                    refine z_aload_n d_M_statement_153 rfl ?_
                    refine z_get fa_M_43 d_M_statement_154 (tp_o hA) rfl ?_
                    refine z_iload d_M_statement_157 rfl ?_
                    refine z_iconst (v := -1) d_M_statement_159 ic_m1 ?_
                    refine t_ast (kf := 15) (j := cn X 7) d_M_statement_160 hA rfl rfl (show cn X 7 < 60 from by omega) (by decide) ?_
                    refine z_iload_n d_M_statement_161 rfl ?_
                    refine z_if_ne (tgt := 197) d_M_statement_162 (by decide) (fun c162 => ?_) (fun c162 => ?_)
                    · have c162n := (not_congr (nI_z (by omega))).mp c162
                      refine z_aload_n d_M_statement_197 rfl ?_
                      refine z_dup d_M_statement_198 rfl ?_
                      refine z_get fa_M_157 d_M_statement_199 (tp_o hA) rfl ?_
                      refine z_top h7 ?_
                      refine z_iconst d_M_statement_202 ic_1 ?_
                      refine z_iadd d_M_statement_203 ?_
                      refine z_top (nI_add (cn X 7) (1)) ?_
                      refine t_put fp_M_157 d_M_statement_204 hA (by decide) rfl ?_
                      refine z_aload_n d_M_statement_207 rfl ?_
                      refine z_cVv (c_M_change l E hA _) cb_M_change ci_M_change ln_M_134 (tp_o hA) rfl rfl (zlq rfl) rfl (zlq rfl) (zlq rfl) d_M_statement_208 ?_
                      refine z_iload d_M_statement_211 rfl ?_
                      exact z_iret rfl d_M_statement_213 (zlq rfl) (zlq rfl) (by unfold tStm; rw [nI_clamp (show κ < 2 ^ 31 by omega)]; rw [if_pos c5n, if_neg c11, if_pos c17, if_pos c37n, if_pos c45, if_neg c50, if_pos c56]; unfold tSt3; rw [if_neg c68, if_neg c72, if_neg c162]; exact ⟨rfl, rfl⟩)
                    · have c162n := (nI_z (by omega)).mp c162
                      refine z_aload_n d_M_statement_165 rfl ?_
                      refine z_get fa_M_43 d_M_statement_166 (tp_o hA) rfl ?_
                      refine z_iload d_M_statement_169 rfl ?_
                      refine z_aload_n d_M_statement_171 rfl ?_
                      refine z_get fa_M_160 d_M_statement_172 (tp_o hA) rfl ?_
                      refine z_top h16 ?_
                      refine t_ast (kf := 15) (j := cn X 7) d_M_statement_175 hA rfl rfl (show cn X 7 < 60 from by omega) (by decide) ?_
                      refine z_aload_n d_M_statement_176 rfl ?_
                      refine z_get fa_M_46 d_M_statement_177 (tp_o hA) rfl ?_
                      refine z_aload_n d_M_statement_180 rfl ?_
                      refine z_get fa_M_160 d_M_statement_181 (tp_o hA) rfl ?_
                      refine z_top h16 ?_
                      refine z_iload d_M_statement_184 rfl ?_
                      refine t_ast (kf := 17) (j := cn X 16) d_M_statement_186 hA rfl rfl (show cn X 16 < 20 from by omega) (by decide) ?_
                      refine z_aload_n d_M_statement_187 rfl ?_
                      refine z_dup d_M_statement_188 rfl ?_
                      refine z_get fa_M_160 d_M_statement_189 (tp_o hA) rfl ?_
                      refine z_top h16 ?_
                      refine z_iconst d_M_statement_192 ic_1 ?_
                      refine z_iadd d_M_statement_193 ?_
                      refine z_top (nI_add (cn X 16) (1)) ?_
                      refine t_put fp_M_160 d_M_statement_194 hA (by decide) rfl ?_
                      refine z_aload_n d_M_statement_197 rfl ?_
                      refine z_dup d_M_statement_198 rfl ?_
                      refine z_get fa_M_157 d_M_statement_199 (tp_o hA) rfl ?_
                      refine z_top h7 ?_
                      refine z_iconst d_M_statement_202 ic_1 ?_
                      refine z_iadd d_M_statement_203 ?_
                      refine z_top (nI_add (cn X 7) (1)) ?_
                      refine t_put fp_M_157 d_M_statement_204 hA (by decide) rfl ?_
                      refine z_aload_n d_M_statement_207 rfl ?_
                      refine z_cVv (c_M_change l E hA _) cb_M_change ci_M_change ln_M_134 (tp_o hA) rfl rfl (zlq rfl) rfl (zlq rfl) (zlq rfl) d_M_statement_208 ?_
                      refine z_iload d_M_statement_211 rfl ?_
                      exact z_iret rfl d_M_statement_213 (zlq rfl) (zlq rfl) (by unfold tStm; rw [nI_clamp (show κ < 2 ^ 31 by omega)]; rw [if_pos c5n, if_neg c11, if_pos c17, if_pos c37n, if_pos c45, if_neg c50, if_pos c56]; unfold tSt3; rw [if_neg c68, if_neg c72, if_pos c162]; exact ⟨rfl, rfl⟩)
                  · have c72n := (nI_z (by omega)).mp c72
                    refine z_aload_n d_M_statement_75 rfl ?_
                    refine z_get fa_M_160 d_M_statement_76 (tp_o hA) rfl ?_
                    refine z_top h16 ?_
                    refine z_bipush d_M_statement_79 bp_20 ?_
                    refine z_icmp_ne (tgt := 87) d_M_statement_81 (by decide) (fun c81 => ?_) (fun c81 => ?_)
                    · have c81n := (not_congr (nI_eq (by omega) (by omega))).mp c81
                      refine z_aload_n d_M_statement_87 rfl ?_
                      refine z_get fa_M_157 d_M_statement_88 (tp_o hA) rfl ?_
                      refine z_top h7 ?_
                      refine z_istore d_M_statement_91 (zlt rfl) ?_
                      refine z_aload_n d_M_statement_93 rfl ?_
                      refine z_get fa_M_22 d_M_statement_94 (tp_o hA) rfl ?_
                      refine z_iload d_M_statement_97 rfl ?_
                      refine z_iload_n d_M_statement_99 rfl ?_
                      refine t_ast (kf := 8) (j := cn X 7) d_M_statement_100 hA rfl rfl (show cn X 7 < 60 from by omega) (by decide) ?_
                      refine z_aload_n d_M_statement_101 rfl ?_
                      refine z_get fa_M_25 d_M_statement_102 (tp_o hA) rfl ?_
                      refine z_iload d_M_statement_105 rfl ?_
                      refine z_iload_n d_M_statement_107 rfl ?_
                      refine t_ast (kf := 9) (j := cn X 7) d_M_statement_108 hA rfl rfl (show cn X 7 < 60 from by omega) (by decide) ?_
                      refine z_aload_n d_M_statement_109 rfl ?_
                      refine z_get fa_M_28 d_M_statement_110 (tp_o hA) rfl ?_
                      refine z_iload d_M_statement_113 rfl ?_
                      refine z_iload_n d_M_statement_115 rfl ?_
                      refine t_ast (kf := 10) (j := cn X 7) d_M_statement_116 hA rfl rfl (show cn X 7 < 60 from by omega) (by decide) ?_
                      refine z_aload_n d_M_statement_117 rfl ?_
                      refine z_get fa_M_31 d_M_statement_118 (tp_o hA) rfl ?_
                      refine z_iload d_M_statement_121 rfl ?_
                      refine z_iload d_M_statement_123 rfl ?_
                      refine t_ast (kf := 11) (j := cn X 7) d_M_statement_125 hA rfl rfl (show cn X 7 < 60 from by omega) (by decide) ?_
                      refine z_aload_n d_M_statement_126 rfl ?_
                      refine z_get fa_M_34 d_M_statement_127 (tp_o hA) rfl ?_
                      refine z_iload d_M_statement_130 rfl ?_
                      refine z_iload d_M_statement_132 rfl ?_
                      refine t_ast (kf := 12) (j := cn X 7) d_M_statement_134 hA rfl rfl (show cn X 7 < 60 from by omega) (by decide) ?_
                      refine z_aload_n d_M_statement_135 rfl ?_
                      refine z_get fa_M_37 d_M_statement_136 (tp_o hA) rfl ?_
                      refine z_iload d_M_statement_139 rfl ?_
                      refine z_iload d_M_statement_141 rfl ?_
                      refine t_ast (kf := 13) (j := cn X 7) d_M_statement_143 hA rfl rfl (show cn X 7 < 60 from by omega) (by decide) ?_
                      refine z_aload_n d_M_statement_144 rfl ?_
                      refine z_get fa_M_40 d_M_statement_145 (tp_o hA) rfl ?_
                      refine z_iload d_M_statement_148 rfl ?_
                      refine z_iload d_M_statement_150 rfl ?_
                      refine t_ast (kf := 14) (j := cn X 7) d_M_statement_152 hA rfl rfl (show cn X 7 < 60 from by omega) (by decide) ?_
                      refine z_aload_n d_M_statement_153 rfl ?_
                      refine z_get fa_M_43 d_M_statement_154 (tp_o hA) rfl ?_
                      refine z_iload d_M_statement_157 rfl ?_
                      refine z_iconst (v := -1) d_M_statement_159 ic_m1 ?_
                      refine t_ast (kf := 15) (j := cn X 7) d_M_statement_160 hA rfl rfl (show cn X 7 < 60 from by omega) (by decide) ?_
                      refine z_iload_n d_M_statement_161 rfl ?_
                      refine z_if_ne (tgt := 197) d_M_statement_162 (by decide) (fun c162 => ?_) (fun c162 => ?_)
                      · have c162n := (not_congr (nI_z (by omega))).mp c162
                        refine z_aload_n d_M_statement_197 rfl ?_
                        refine z_dup d_M_statement_198 rfl ?_
                        refine z_get fa_M_157 d_M_statement_199 (tp_o hA) rfl ?_
                        refine z_top h7 ?_
                        refine z_iconst d_M_statement_202 ic_1 ?_
                        refine z_iadd d_M_statement_203 ?_
                        refine z_top (nI_add (cn X 7) (1)) ?_
                        refine t_put fp_M_157 d_M_statement_204 hA (by decide) rfl ?_
                        refine z_aload_n d_M_statement_207 rfl ?_
                        refine z_cVv (c_M_change l E hA _) cb_M_change ci_M_change ln_M_134 (tp_o hA) rfl rfl (zlq rfl) rfl (zlq rfl) (zlq rfl) d_M_statement_208 ?_
                        refine z_iload d_M_statement_211 rfl ?_
                        exact z_iret rfl d_M_statement_213 (zlq rfl) (zlq rfl) (by unfold tStm; rw [nI_clamp (show κ < 2 ^ 31 by omega)]; rw [if_pos c5n, if_neg c11, if_pos c17, if_pos c37n, if_pos c45, if_neg c50, if_pos c56]; unfold tSt3; rw [if_neg c68, if_pos c72, if_neg c81, if_neg c162]; exact ⟨rfl, rfl⟩)
                      · have c162n := (nI_z (by omega)).mp c162
                        refine z_aload_n d_M_statement_165 rfl ?_
                        refine z_get fa_M_43 d_M_statement_166 (tp_o hA) rfl ?_
                        refine z_iload d_M_statement_169 rfl ?_
                        refine z_aload_n d_M_statement_171 rfl ?_
                        refine z_get fa_M_160 d_M_statement_172 (tp_o hA) rfl ?_
                        refine z_top h16 ?_
                        refine t_ast (kf := 15) (j := cn X 7) d_M_statement_175 hA rfl rfl (show cn X 7 < 60 from by omega) (by decide) ?_
                        refine z_aload_n d_M_statement_176 rfl ?_
                        refine z_get fa_M_46 d_M_statement_177 (tp_o hA) rfl ?_
                        refine z_aload_n d_M_statement_180 rfl ?_
                        refine z_get fa_M_160 d_M_statement_181 (tp_o hA) rfl ?_
                        refine z_top h16 ?_
                        refine z_iload d_M_statement_184 rfl ?_
                        refine t_ast (kf := 17) (j := cn X 16) d_M_statement_186 hA rfl rfl (show cn X 16 < 20 from by omega) (by decide) ?_
                        refine z_aload_n d_M_statement_187 rfl ?_
                        refine z_dup d_M_statement_188 rfl ?_
                        refine z_get fa_M_160 d_M_statement_189 (tp_o hA) rfl ?_
                        refine z_top h16 ?_
                        refine z_iconst d_M_statement_192 ic_1 ?_
                        refine z_iadd d_M_statement_193 ?_
                        refine z_top (nI_add (cn X 16) (1)) ?_
                        refine t_put fp_M_160 d_M_statement_194 hA (by decide) rfl ?_
                        refine z_aload_n d_M_statement_197 rfl ?_
                        refine z_dup d_M_statement_198 rfl ?_
                        refine z_get fa_M_157 d_M_statement_199 (tp_o hA) rfl ?_
                        refine z_top h7 ?_
                        refine z_iconst d_M_statement_202 ic_1 ?_
                        refine z_iadd d_M_statement_203 ?_
                        refine z_top (nI_add (cn X 7) (1)) ?_
                        refine t_put fp_M_157 d_M_statement_204 hA (by decide) rfl ?_
                        refine z_aload_n d_M_statement_207 rfl ?_
                        refine z_cVv (c_M_change l E hA _) cb_M_change ci_M_change ln_M_134 (tp_o hA) rfl rfl (zlq rfl) rfl (zlq rfl) (zlq rfl) d_M_statement_208 ?_
                        refine z_iload d_M_statement_211 rfl ?_
                        exact z_iret rfl d_M_statement_213 (zlq rfl) (zlq rfl) (by unfold tStm; rw [nI_clamp (show κ < 2 ^ 31 by omega)]; rw [if_pos c5n, if_neg c11, if_pos c17, if_pos c37n, if_pos c45, if_neg c50, if_pos c56]; unfold tSt3; rw [if_neg c68, if_pos c72, if_neg c81, if_pos c162]; exact ⟨rfl, rfl⟩)
                    · have c81n := (nI_eq (by omega) (by omega)).mp c81
                      refine z_bipush (v := -4) d_M_statement_84 bp_m4 ?_
                      exact z_iret rfl d_M_statement_86 (zlq rfl) (zlq rfl) (by unfold tStm; rw [nI_clamp (show κ < 2 ^ 31 by omega)]; rw [if_pos c5n, if_neg c11, if_pos c17, if_pos c37n, if_pos c45, if_neg c50, if_pos c56]; unfold tSt3; rw [if_neg c68, if_pos c72, if_pos c81]; exact ⟨rfl, rfl⟩)
              · refine z_bipush (v := -2) d_M_statement_59 bp_m2 ?_
                exact z_iret rfl d_M_statement_61 (zlq rfl) (zlq rfl) (by unfold tStm; rw [nI_clamp (show κ < 2 ^ 31 by omega)]; rw [if_pos c5n, if_neg c11, if_pos c17, if_pos c37n, if_pos c45, if_neg c50, if_neg c56]; exact ⟨rfl, rfl⟩)
        · have c37n := bI_e.mp c37
          refine z_iconst (v := -1) d_M_statement_40 ic_m1 ?_
          exact z_iret rfl d_M_statement_41 (zlq rfl) (zlq rfl) (by unfold tStm; rw [nI_clamp (show κ < 2 ^ 31 by omega)]; rw [if_pos c5n, if_neg c11, if_pos c17, if_neg (zbf c37n)]; exact ⟨rfl, rfl⟩)
      · refine z_bipush (v := -2) d_M_statement_20 bp_m2 ?_
        exact z_iret rfl d_M_statement_22 (zlq rfl) (zlq rfl) (by unfold tStm; rw [if_pos c5n, if_neg c11, if_neg c17]; exact ⟨rfl, rfl⟩)
  · have c5n := bI_e.mp c5
    refine z_iconst (v := -1) d_M_statement_8 ic_m1 ?_
    exact z_iret rfl d_M_statement_9 (zlq rfl) (zlq rfl) (by unfold tStm; rw [if_neg (zbf c5n)]; exact ⟨rfl, rfl⟩)
