/-! the twin's constructor -/
def mfs (A : Nat → Nat) (d : List Nat) : List Value := (List.range 44).map (fun k => if tm_len k = 0 then .int 0 else if k ∈ d then .ref (A k) else .null)
def mdm (d : List Nat) (k : Nat) : Prop := k = 44 ∨ k ∈ d
def mct (E : zE) (A : Nat → Nat) (d : List Nat) (k : Nat) : va_E := if k = 44 then zob 8 (mfs A d) else zeI E (tm_len k) (fun _ => 0)
noncomputable def tq (E : zE) (A : Nat → Nat) (d : List Nat) : zPH := zpm (mdm d) A (mct E A d)
theorem mfs_len {A : Nat → Nat} {d : List Nat} : (mfs A d).length = 44 := by unfold mfs; simp
theorem mfs_set {A : Nat → Nat} {d : List Nat} {r q : Nat} (h0 : tm_len r ≠ 0) (hr : r < 44) : (mfs A d).set r (.ref q) = mfs (va_up A r q) (r :: d) := by
  apply List.ext_getElem?
  intro i
  by_cases hi : i = r
  · subst hi
    rw [List.getElem?_set_self (by rw [mfs_len]; exact hr)]
    unfold mfs
    rw [List.getElem?_map, List.getElem?_range hr]
    simp [h0, va_up_self]
  · rw [List.getElem?_set_ne (Ne.symm hi)]
    unfold mfs
    rw [List.getElem?_map, List.getElem?_map]
    by_cases h4 : i < 44
    · rw [List.getElem?_range h4]
      simp [hi, va_up_ne A q hi]
    · rw [List.getElem?_eq_none (by simp; omega)]
      rfl
theorem mi_o {E : zE} {A : Nat → Nat} {d : List Nat} {q a : Nat} {e : va_E} (hA : zinj (mdm d) A) (h44 : A 44 = a) (hq : tq E A d q = none) : zpu (tq E A d) q e a = some (zob 8 (mfs A d)) := by
  have h1 : tq E A d a = some (zob 8 (mfs A d)) := by
    rw [← h44]
    exact zpm_at hA (i := 44) (Or.inl rfl)
  rw [zpu_n (fun z => by rw [z, hq] at h1; cases h1)]
  exact h1
theorem mi_fin {C : zC} {k n pc : Nat} {L : zL} {st : List Value} {A : Nat → Nat} {d : List Nat} {q a r N : Nat} (hA : zinj (mdm d) A) (h44 : A 44 = a) (hq : tq C.E A d q = none) (hr : (tm_len r == N && N != 0 && decide (r < 44) && decide (r ∉ d)) = true) (kk : ∀ A' : Nat → Nat, zinj (mdm (r :: d)) A' → A' 44 = a → zG C k n pc L st (tq C.E A' (r :: d))) : zG C k n pc L st (zpu (zpu (tq C.E A d) q (zeI C.E N (fun _ => 0))) a (zob 8 ((mfs A d).set r (.ref q)))) := by
  simp only [Bool.and_eq_true, beq_iff_eq, bne_iff_ne, decide_eq_true_eq] at hr
  obtain ⟨⟨⟨r1, r2⟩, r3⟩, r4⟩ := hr
  obtain ⟨e1, i1⟩ := zpm_new (dm' := mdm (r :: d)) (A' := va_up A r q) (ct' := fun j => if j = 44 then zob 8 (mfs A d) else zeI C.E (tm_len j) (fun _ => 0)) (r := r) (e := zeI C.E N (fun _ => 0)) hA hq (fun z => by rcases z with z | z; omega; exact r4 z) (fun i => by unfold mdm; rw [List.mem_cons]; exact ⟨fun h => by rcases h with h | h | h; exact Or.inl (Or.inl h); exact Or.inr h; exact Or.inl (Or.inr h), fun h => by rcases h with (h | h) | h; exact Or.inl h; exact Or.inr (Or.inr h); exact Or.inr (Or.inl h)⟩) (fun j hj => ⟨va_up_ne _ _ (fun z => by subst z; rcases hj with z | z; omega; exact r4 z), rfl⟩) ⟨va_up_self _ _ _, by (try dsimp only); rw [if_neg (by omega), r1]⟩
  have h44' : va_up A r q 44 = a := by rw [va_up_ne _ _ (by omega)]; exact h44
  refine z_eqh ?_ (kk (va_up A r q) i1 h44')
  show zpu (zpu (zpm (mdm d) A (mct C.E A d)) q _) a _ = _
  rw [e1, ← h44']
  unfold tq
  refine zpm_up i1 (i := 44) (Or.inl rfl) ?_ (fun j hj hne => ?_)
  · unfold mct
    rw [if_pos rfl, mfs_set (by omega) r3]
  · unfold mct
    rw [if_neg hne, if_neg hne]
theorem zpm_dm {ι : Type} {dm dm' : ι → Prop} {A : ι → Nat} {ct : ι → va_E} (h : ∀ i, dm i ↔ dm' i) : zpm dm A ct = zpm dm' A ct := by
  have : dm = dm' := funext (fun i => propext (h i))
  rw [this]
def mi_all : List Nat := [42, 41, 40, 39, 38, 36, 35, 34, 33, 30, 29, 28, 27, 26, 25, 24, 23, 22, 21, 20, 17, 15, 14, 13, 12, 11, 10, 9, 8, 6, 5, 3, 1]
theorem mi_dm : ∀ k, mdm mi_all k ↔ tm_dm k := by
  intro k
  unfold mdm tm_dm
  by_cases hk : k < 45
  · revert k
    decide
  · constructor
    · intro h
      rcases h with h | h
      · omega
      · exact absurd h (by unfold mi_all; simp; omega)
    · intro h
      have h1 : tm_len k = 0 := by
        unfold tm_len
        split <;> first | rfl | omega
      rw [h1] at h
      simp at h
      omega
set_option maxRecDepth 100000 in
theorem mi_fs (A : Nat → Nat) : mfs A mi_all = tm_fs A (fun _ _ => 0) := rfl
theorem mi_end {E : zE} {A : Nat → Nat} : tq E A mi_all = tp E A (fun _ _ => 0) := by
  unfold tq tp
  rw [zpm_dm mi_dm]
  have : mct E A mi_all = tm_ct E A (fun _ _ => 0) := by
    funext k
    unfold mct tm_ct
    rw [mi_fs]
  rw [this]
theorem mi_inj {A : Nat → Nat} (h : zinj (mdm mi_all) A) : tmI A := fun i j hi hj e => h i j ((mi_dm i).mpr hi) ((mi_dm j).mpr hj) e
theorem mi_beg {E : zE} {a : Nat} : zpu (fun _ => none) a (zob 8 (mfs (fun _ => a) [])) = tq E (fun _ => a) [] ∧ zinj (mdm []) (fun _ => a) := by
  have hi : zinj (mdm []) (fun _ : Nat => a) := by
    intro i j h1 h2 _
    rcases h1 with h1 | h1
    · rcases h2 with h2 | h2
      · rw [h1, h2]
      · cases h2
    · cases h1
  refine ⟨?_, hi⟩
  funext q
  by_cases hq : q = a
  · subst hq
    rw [zpu_s]
    exact (zpm_at (ct := mct E (fun _ => q) []) hi (i := 44) (Or.inl rfl)).symm
  · rw [zpu_n hq]
    refine (zpm_no (fun i hi z => hq z.symm)).symm
abbrev rm_M_init : Room := { frames := 1, cells := 33, slots := 5098, locals := 12 }
set_option maxHeartbeats 4000000 in
set_option maxRecDepth 100000 in
theorem c_M_init (l : Launch) (E : zE) (a : Nat) : zM l E y_M_init b_M_init 1 (none) rm_M_init [.ref a] (zpu (fun _ => none) a (zob 8 [.int 0, .null, .int 0, .null, .int 0, .null, .null, .int 0, .null, .null, .null, .null, .null, .null, .null, .null, .int 0, .null, .int 0, .int 0, .null, .null, .null, .null, .null, .null, .null, .null, .null, .null, .null, .int 0, .int 0, .null, .null, .null, .null, .int 0, .null, .null, .null, .null, .null, .int 0])) (fun v h' => v = none ∧ ∃ A : Nat → Nat, tmI A ∧ A 44 = a ∧ h' = tp E A (fun _ _ => 0)) := by
  refine zM_w (by decide +kernel) rfl rfl (fun sz => ?_)
  refine z_eqh (show _ = tq E (fun _ => a) [] from mi_beg.1) ?_
  have hA : zinj (mdm []) (fun _ => a) := (mi_beg (E := E)).2
  have h44 : (fun _ : Nat => a) 44 = a := rfl
  revert hA h44
  generalize (fun _ : Nat => a) = A
  intro hA h44
  refine z_aload_n d_M_init_0 rfl ?_
  refine z_objInit k_797 k_85 k_86 d_M_init_1 (zlq rfl) (zlq rfl) ?_
  refine z_aload_n d_M_init_4 rfl ?_
  refine z_bipush d_M_init_5 bp_8 ?_
  refine z_newI (N := 8) d_M_init_7 (nI_pos (by decide)) (nI_clamp (by decide)) (by decide) (zlq rfl) (zlq rfl) (fun q hq => ?_)
  refine z_putF fp_M_7 rfl d_M_init_9 (mi_o hA h44 hq) rfl rfl (by rw [mfs_len]; decide) ?_
  refine mi_fin hA h44 hq (by decide +kernel) (fun A hA h44 => ?_)
  refine z_aload_n d_M_init_12 rfl ?_
  refine z_bipush d_M_init_13 bp_8 ?_
  refine z_newI (N := 8) d_M_init_15 (nI_pos (by decide)) (nI_clamp (by decide)) (by decide) (zlq rfl) (zlq rfl) (fun q hq => ?_)
  refine z_putF fp_M_13 rfl d_M_init_17 (mi_o hA h44 hq) rfl rfl (by rw [mfs_len]; decide) ?_
  refine mi_fin hA h44 hq (by decide +kernel) (fun A hA h44 => ?_)
  refine z_aload_n d_M_init_20 rfl ?_
  refine z_bipush d_M_init_21 bp_10 ?_
  refine z_newI (N := 10) d_M_init_23 (nI_pos (by decide)) (nI_clamp (by decide)) (by decide) (zlq rfl) (zlq rfl) (fun q hq => ?_)
  refine z_putF fp_M_16 rfl d_M_init_25 (mi_o hA h44 hq) rfl rfl (by rw [mfs_len]; decide) ?_
  refine mi_fin hA h44 hq (by decide +kernel) (fun A hA h44 => ?_)
  refine z_aload_n d_M_init_28 rfl ?_
  refine z_bipush d_M_init_29 bp_10 ?_
  refine z_newI (N := 10) d_M_init_31 (nI_pos (by decide)) (nI_clamp (by decide)) (by decide) (zlq rfl) (zlq rfl) (fun q hq => ?_)
  refine z_putF fp_M_19 rfl d_M_init_33 (mi_o hA h44 hq) rfl rfl (by rw [mfs_len]; decide) ?_
  refine mi_fin hA h44 hq (by decide +kernel) (fun A hA h44 => ?_)
  refine z_aload_n d_M_init_36 rfl ?_
  refine z_bipush d_M_init_37 bp_60 ?_
  refine z_newI (N := 60) d_M_init_39 (nI_pos (by decide)) (nI_clamp (by decide)) (by decide) (zlq rfl) (zlq rfl) (fun q hq => ?_)
  refine z_putF fp_M_22 rfl d_M_init_41 (mi_o hA h44 hq) rfl rfl (by rw [mfs_len]; decide) ?_
  refine mi_fin hA h44 hq (by decide +kernel) (fun A hA h44 => ?_)
  refine z_aload_n d_M_init_44 rfl ?_
  refine z_bipush d_M_init_45 bp_60 ?_
  refine z_newI (N := 60) d_M_init_47 (nI_pos (by decide)) (nI_clamp (by decide)) (by decide) (zlq rfl) (zlq rfl) (fun q hq => ?_)
  refine z_putF fp_M_25 rfl d_M_init_49 (mi_o hA h44 hq) rfl rfl (by rw [mfs_len]; decide) ?_
  refine mi_fin hA h44 hq (by decide +kernel) (fun A hA h44 => ?_)
  refine z_aload_n d_M_init_52 rfl ?_
  refine z_bipush d_M_init_53 bp_60 ?_
  refine z_newI (N := 60) d_M_init_55 (nI_pos (by decide)) (nI_clamp (by decide)) (by decide) (zlq rfl) (zlq rfl) (fun q hq => ?_)
  refine z_putF fp_M_28 rfl d_M_init_57 (mi_o hA h44 hq) rfl rfl (by rw [mfs_len]; decide) ?_
  refine mi_fin hA h44 hq (by decide +kernel) (fun A hA h44 => ?_)
  refine z_aload_n d_M_init_60 rfl ?_
  refine z_bipush d_M_init_61 bp_60 ?_
  refine z_newI (N := 60) d_M_init_63 (nI_pos (by decide)) (nI_clamp (by decide)) (by decide) (zlq rfl) (zlq rfl) (fun q hq => ?_)
  refine z_putF fp_M_31 rfl d_M_init_65 (mi_o hA h44 hq) rfl rfl (by rw [mfs_len]; decide) ?_
  refine mi_fin hA h44 hq (by decide +kernel) (fun A hA h44 => ?_)
  refine z_aload_n d_M_init_68 rfl ?_
  refine z_bipush d_M_init_69 bp_60 ?_
  refine z_newI (N := 60) d_M_init_71 (nI_pos (by decide)) (nI_clamp (by decide)) (by decide) (zlq rfl) (zlq rfl) (fun q hq => ?_)
  refine z_putF fp_M_34 rfl d_M_init_73 (mi_o hA h44 hq) rfl rfl (by rw [mfs_len]; decide) ?_
  refine mi_fin hA h44 hq (by decide +kernel) (fun A hA h44 => ?_)
  refine z_aload_n d_M_init_76 rfl ?_
  refine z_bipush d_M_init_77 bp_60 ?_
  refine z_newI (N := 60) d_M_init_79 (nI_pos (by decide)) (nI_clamp (by decide)) (by decide) (zlq rfl) (zlq rfl) (fun q hq => ?_)
  refine z_putF fp_M_37 rfl d_M_init_81 (mi_o hA h44 hq) rfl rfl (by rw [mfs_len]; decide) ?_
  refine mi_fin hA h44 hq (by decide +kernel) (fun A hA h44 => ?_)
  refine z_aload_n d_M_init_84 rfl ?_
  refine z_bipush d_M_init_85 bp_60 ?_
  refine z_newI (N := 60) d_M_init_87 (nI_pos (by decide)) (nI_clamp (by decide)) (by decide) (zlq rfl) (zlq rfl) (fun q hq => ?_)
  refine z_putF fp_M_40 rfl d_M_init_89 (mi_o hA h44 hq) rfl rfl (by rw [mfs_len]; decide) ?_
  refine mi_fin hA h44 hq (by decide +kernel) (fun A hA h44 => ?_)
  refine z_aload_n d_M_init_92 rfl ?_
  refine z_bipush d_M_init_93 bp_60 ?_
  refine z_newI (N := 60) d_M_init_95 (nI_pos (by decide)) (nI_clamp (by decide)) (by decide) (zlq rfl) (zlq rfl) (fun q hq => ?_)
  refine z_putF fp_M_43 rfl d_M_init_97 (mi_o hA h44 hq) rfl rfl (by rw [mfs_len]; decide) ?_
  refine mi_fin hA h44 hq (by decide +kernel) (fun A hA h44 => ?_)
  refine z_aload_n d_M_init_100 rfl ?_
  refine z_bipush d_M_init_101 bp_20 ?_
  refine z_newI (N := 20) d_M_init_103 (nI_pos (by decide)) (nI_clamp (by decide)) (by decide) (zlq rfl) (zlq rfl) (fun q hq => ?_)
  refine z_putF fp_M_46 rfl d_M_init_105 (mi_o hA h44 hq) rfl rfl (by rw [mfs_len]; decide) ?_
  refine mi_fin hA h44 hq (by decide +kernel) (fun A hA h44 => ?_)
  refine z_aload_n d_M_init_108 rfl ?_
  refine z_sipush d_M_init_109 sp_1260 ?_
  refine z_newI (N := 1260) d_M_init_112 (nI_pos (by decide)) (nI_clamp (by decide)) (by decide) (zlq rfl) (zlq rfl) (fun q hq => ?_)
  refine z_putF fp_M_49 rfl d_M_init_114 (mi_o hA h44 hq) rfl rfl (by rw [mfs_len]; decide) ?_
  refine mi_fin hA h44 hq (by decide +kernel) (fun A hA h44 => ?_)
  refine z_aload_n d_M_init_117 rfl ?_
  refine z_sipush d_M_init_118 sp_1260 ?_
  refine z_newI (N := 1260) d_M_init_121 (nI_pos (by decide)) (nI_clamp (by decide)) (by decide) (zlq rfl) (zlq rfl) (fun q hq => ?_)
  refine z_putF fp_M_52 rfl d_M_init_123 (mi_o hA h44 hq) rfl rfl (by rw [mfs_len]; decide) ?_
  refine mi_fin hA h44 hq (by decide +kernel) (fun A hA h44 => ?_)
  refine z_aload_n d_M_init_126 rfl ?_
  refine z_sipush d_M_init_127 sp_160 ?_
  refine z_newI (N := 160) d_M_init_130 (nI_pos (by decide)) (nI_clamp (by decide)) (by decide) (zlq rfl) (zlq rfl) (fun q hq => ?_)
  refine z_putF fp_M_55 rfl d_M_init_132 (mi_o hA h44 hq) rfl rfl (by rw [mfs_len]; decide) ?_
  refine mi_fin hA h44 hq (by decide +kernel) (fun A hA h44 => ?_)
  refine z_aload_n d_M_init_135 rfl ?_
  refine z_sipush d_M_init_136 sp_160 ?_
  refine z_newI (N := 160) d_M_init_139 (nI_pos (by decide)) (nI_clamp (by decide)) (by decide) (zlq rfl) (zlq rfl) (fun q hq => ?_)
  refine z_putF fp_M_58 rfl d_M_init_141 (mi_o hA h44 hq) rfl rfl (by rw [mfs_len]; decide) ?_
  refine mi_fin hA h44 hq (by decide +kernel) (fun A hA h44 => ?_)
  refine z_aload_n d_M_init_144 rfl ?_
  refine z_bipush d_M_init_145 bp_20 ?_
  refine z_newI (N := 20) d_M_init_147 (nI_pos (by decide)) (nI_clamp (by decide)) (by decide) (zlq rfl) (zlq rfl) (fun q hq => ?_)
  refine z_putF fp_M_61 rfl d_M_init_149 (mi_o hA h44 hq) rfl rfl (by rw [mfs_len]; decide) ?_
  refine mi_fin hA h44 hq (by decide +kernel) (fun A hA h44 => ?_)
  refine z_aload_n d_M_init_152 rfl ?_
  refine z_bipush d_M_init_153 bp_20 ?_
  refine z_newI (N := 20) d_M_init_155 (nI_pos (by decide)) (nI_clamp (by decide)) (by decide) (zlq rfl) (zlq rfl) (fun q hq => ?_)
  refine z_putF fp_M_64 rfl d_M_init_157 (mi_o hA h44 hq) rfl rfl (by rw [mfs_len]; decide) ?_
  refine mi_fin hA h44 hq (by decide +kernel) (fun A hA h44 => ?_)
  refine z_aload_n d_M_init_160 rfl ?_
  refine z_iconst d_M_init_161 ic_4 ?_
  refine z_newI (N := 4) d_M_init_162 (nI_pos (by decide)) (nI_clamp (by decide)) (by decide) (zlq rfl) (zlq rfl) (fun q hq => ?_)
  refine z_putF fp_M_67 rfl d_M_init_164 (mi_o hA h44 hq) rfl rfl (by rw [mfs_len]; decide) ?_
  refine mi_fin hA h44 hq (by decide +kernel) (fun A hA h44 => ?_)
  refine z_aload_n d_M_init_167 rfl ?_
  refine z_iconst d_M_init_168 ic_4 ?_
  refine z_newI (N := 4) d_M_init_169 (nI_pos (by decide)) (nI_clamp (by decide)) (by decide) (zlq rfl) (zlq rfl) (fun q hq => ?_)
  refine z_putF fp_M_70 rfl d_M_init_171 (mi_o hA h44 hq) rfl rfl (by rw [mfs_len]; decide) ?_
  refine mi_fin hA h44 hq (by decide +kernel) (fun A hA h44 => ?_)
  refine z_aload_n d_M_init_174 rfl ?_
  refine z_bipush d_M_init_175 bp_10 ?_
  refine z_newI (N := 10) d_M_init_177 (nI_pos (by decide)) (nI_clamp (by decide)) (by decide) (zlq rfl) (zlq rfl) (fun q hq => ?_)
  refine z_putF fp_M_73 rfl d_M_init_179 (mi_o hA h44 hq) rfl rfl (by rw [mfs_len]; decide) ?_
  refine mi_fin hA h44 hq (by decide +kernel) (fun A hA h44 => ?_)
  refine z_aload_n d_M_init_182 rfl ?_
  refine z_bipush d_M_init_183 bp_10 ?_
  refine z_newI (N := 10) d_M_init_185 (nI_pos (by decide)) (nI_clamp (by decide)) (by decide) (zlq rfl) (zlq rfl) (fun q hq => ?_)
  refine z_putF fp_M_76 rfl d_M_init_187 (mi_o hA h44 hq) rfl rfl (by rw [mfs_len]; decide) ?_
  refine mi_fin hA h44 hq (by decide +kernel) (fun A hA h44 => ?_)
  refine z_aload_n d_M_init_190 rfl ?_
  refine z_sipush d_M_init_191 sp_1200 ?_
  refine z_newI (N := 1200) d_M_init_194 (nI_pos (by decide)) (nI_clamp (by decide)) (by decide) (zlq rfl) (zlq rfl) (fun q hq => ?_)
  refine z_putF fp_M_79 rfl d_M_init_196 (mi_o hA h44 hq) rfl rfl (by rw [mfs_len]; decide) ?_
  refine mi_fin hA h44 hq (by decide +kernel) (fun A hA h44 => ?_)
  refine z_aload_n d_M_init_199 rfl ?_
  refine z_bipush d_M_init_200 bp_30 ?_
  refine z_newI (N := 30) d_M_init_202 (nI_pos (by decide)) (nI_clamp (by decide)) (by decide) (zlq rfl) (zlq rfl) (fun q hq => ?_)
  refine z_putF fp_M_82 rfl d_M_init_204 (mi_o hA h44 hq) rfl rfl (by rw [mfs_len]; decide) ?_
  refine mi_fin hA h44 hq (by decide +kernel) (fun A hA h44 => ?_)
  refine z_aload_n d_M_init_207 rfl ?_
  refine z_sipush d_M_init_208 sp_240 ?_
  refine z_newI (N := 240) d_M_init_211 (nI_pos (by decide)) (nI_clamp (by decide)) (by decide) (zlq rfl) (zlq rfl) (fun q hq => ?_)
  refine z_putF fp_M_85 rfl d_M_init_213 (mi_o hA h44 hq) rfl rfl (by rw [mfs_len]; decide) ?_
  refine mi_fin hA h44 hq (by decide +kernel) (fun A hA h44 => ?_)
  refine z_aload_n d_M_init_216 rfl ?_
  refine z_bipush d_M_init_217 bp_30 ?_
  refine z_newI (N := 30) d_M_init_219 (nI_pos (by decide)) (nI_clamp (by decide)) (by decide) (zlq rfl) (zlq rfl) (fun q hq => ?_)
  refine z_putF fp_M_88 rfl d_M_init_221 (mi_o hA h44 hq) rfl rfl (by rw [mfs_len]; decide) ?_
  refine mi_fin hA h44 hq (by decide +kernel) (fun A hA h44 => ?_)
  refine z_aload_n d_M_init_224 rfl ?_
  refine z_iconst d_M_init_225 ic_4 ?_
  refine z_newI (N := 4) d_M_init_226 (nI_pos (by decide)) (nI_clamp (by decide)) (by decide) (zlq rfl) (zlq rfl) (fun q hq => ?_)
  refine z_putF fp_M_91 rfl d_M_init_228 (mi_o hA h44 hq) rfl rfl (by rw [mfs_len]; decide) ?_
  refine mi_fin hA h44 hq (by decide +kernel) (fun A hA h44 => ?_)
  refine z_aload_n d_M_init_231 rfl ?_
  refine z_bipush d_M_init_232 bp_10 ?_
  refine z_newI (N := 10) d_M_init_234 (nI_pos (by decide)) (nI_clamp (by decide)) (by decide) (zlq rfl) (zlq rfl) (fun q hq => ?_)
  refine z_putF fp_M_94 rfl d_M_init_236 (mi_o hA h44 hq) rfl rfl (by rw [mfs_len]; decide) ?_
  refine mi_fin hA h44 hq (by decide +kernel) (fun A hA h44 => ?_)
  refine z_aload_n d_M_init_239 rfl ?_
  refine z_bipush d_M_init_240 bp_10 ?_
  refine z_newI (N := 10) d_M_init_242 (nI_pos (by decide)) (nI_clamp (by decide)) (by decide) (zlq rfl) (zlq rfl) (fun q hq => ?_)
  refine z_putF fp_M_97 rfl d_M_init_244 (mi_o hA h44 hq) rfl rfl (by rw [mfs_len]; decide) ?_
  refine mi_fin hA h44 hq (by decide +kernel) (fun A hA h44 => ?_)
  refine z_aload_n d_M_init_247 rfl ?_
  refine z_bipush d_M_init_248 bp_10 ?_
  refine z_newI (N := 10) d_M_init_250 (nI_pos (by decide)) (nI_clamp (by decide)) (by decide) (zlq rfl) (zlq rfl) (fun q hq => ?_)
  refine z_putF fp_M_100 rfl d_M_init_252 (mi_o hA h44 hq) rfl rfl (by rw [mfs_len]; decide) ?_
  refine mi_fin hA h44 hq (by decide +kernel) (fun A hA h44 => ?_)
  refine z_aload_n d_M_init_255 rfl ?_
  refine z_bipush d_M_init_256 bp_60 ?_
  refine z_newI (N := 60) d_M_init_258 (nI_pos (by decide)) (nI_clamp (by decide)) (by decide) (zlq rfl) (zlq rfl) (fun q hq => ?_)
  refine z_putF fp_M_103 rfl d_M_init_260 (mi_o hA h44 hq) rfl rfl (by rw [mfs_len]; decide) ?_
  refine mi_fin hA h44 hq (by decide +kernel) (fun A hA h44 => ?_)
  refine z_aload_n d_M_init_263 rfl ?_
  refine z_bipush d_M_init_264 bp_60 ?_
  refine z_newI (N := 60) d_M_init_266 (nI_pos (by decide)) (nI_clamp (by decide)) (by decide) (zlq rfl) (zlq rfl) (fun q hq => ?_)
  refine z_putF fp_M_106 rfl d_M_init_268 (mi_o hA h44 hq) rfl rfl (by rw [mfs_len]; decide) ?_
  refine mi_fin hA h44 hq (by decide +kernel) (fun A hA h44 => ?_)
  exact z_vret rfl d_M_init_271 (zlq rfl) (zlq rfl) ⟨rfl, A, mi_inj hA, h44, mi_end⟩
