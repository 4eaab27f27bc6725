/-! a row an instruction, over zG -/
section ZR
variable {C : zC} {k n pc : Nat} {L : zL} {st : List Value} {h : zPH}
/-- rounding up; forgetting; renaming -/
theorem z_wid {k' n' : Nat} (h1 : k ≤ k') (h2 : n ≤ n') (kk : zG C k' n' pc L st h) : zG C k n pc L st h :=
  fun p e s m args below meth c H locs ls F S P X hl => W.widen h1 h2 (kk p e s m args below meth c H locs ls F S P X hl)
theorem z_le {h1 : zPH} (hh : zle h1 h) (kk : zG C k n pc L st h1) : zG C k n pc L st h :=
  fun p e s m args below meth c H locs ls F S P X hl => kk p e s m args below meth c H locs ls F S (zhl_le hh P) (zex_le hh X) hl
theorem z_eqh {h1 : zPH} (hh : h = h1) (kk : zG C k n pc L st h1) : zG C k n pc L st h := by rw [hh]; exact kk
theorem z_eqs {st' : List Value} (hh : st = st') (kk : zG C k n pc L st' h) : zG C k n pc L st h := by rw [hh]; exact kk
theorem z_eqL {L' : zL} (hh : L = L') (kk : zG C k n pc L' st h) : zG C k n pc L st h := by rw [hh]; exact kk
theorem z_top {x y : Int32} (hh : x = y) (kk : zG C k n pc L (.int y :: st) h) : zG C k n pc L (.int x :: st) h := by rw [hh]; exact kk
theorem z_use (hh : ∀ {H : Heap}, zhl C.E h H → zex C.h0 C.sz h → zG C k n pc L st h) : zG C k n pc L st h :=
  fun p e s m args below meth c H locs ls F S P X hl => hh P X p e s m args below meth c H locs ls F S P X hl
theorem z_iconst {i : Int} {v : Int32} (hd : decode C.cc pc = .ok (.iconst i, 1)) (hv : Int32.ofInt i = v) (kk : zG C k n (pc + 1) L (.int v :: st) h) : zG C k n pc L (st) h :=
  fun p e s m args below meth c H locs ls F S P X hl => lv_iconst F.1 F.2.1 hd hv (kk p e s m args below meth c H locs ls F S P X hl)
theorem z_bipush {i : Int} {v : Int32} (hd : decode C.cc pc = .ok (.bipush i, 2)) (hv : (Int8.ofInt i).toInt32 = v) (kk : zG C k n (pc + 2) L (.int v :: st) h) : zG C k n pc L (st) h :=
  fun p e s m args below meth c H locs ls F S P X hl => lv_bipush F.1 F.2.1 hd hv (kk p e s m args below meth c H locs ls F S P X hl)
theorem z_sipush {i : Int} {v : Int32} (hd : decode C.cc pc = .ok (.sipush i, 3)) (hv : (Int16.ofInt i).toInt32 = v) (kk : zG C k n (pc + 3) L (.int v :: st) h) : zG C k n pc L (st) h :=
  fun p e s m args below meth c H locs ls F S P X hl => lv_sipush F.1 F.2.1 hd hv (kk p e s m args below meth c H locs ls F S P X hl)
theorem z_iload_n {j : Fin 4} {x : Int32} (hd : decode C.cc pc = .ok (.iload_n j, 1)) (hv : L[(j : Nat)]? = some (some (.int x))) (kk : zG C k n (pc + 1) L (.int x :: st) h) : zG C k n pc L (st) h :=
  fun p e s m args below meth c H locs ls F S P X hl => lv_iload_n F.1 F.2.1 hd rfl (hl.2 _ _ hv).1 (kk p e s m args below meth c H locs ls F S P X hl)
theorem z_iload {i : Nat} {x : Int32} (hd : decode C.cc pc = .ok (.iload i, 2)) (hv : L[i]? = some (some (.int x))) (kk : zG C k n (pc + 2) L (.int x :: st) h) : zG C k n pc L (st) h :=
  fun p e s m args below meth c H locs ls F S P X hl => lv_iload F.1 F.2.1 hd (hl.2 _ _ hv).1 (kk p e s m args below meth c H locs ls F S P X hl)
theorem z_aload_n {j : Fin 4} {x : Nat} (hd : decode C.cc pc = .ok (.aload_n j, 1)) (hv : L[(j : Nat)]? = some (some (.ref x))) (kk : zG C k n (pc + 1) L (.ref x :: st) h) : zG C k n pc L (st) h :=
  fun p e s m args below meth c H locs ls F S P X hl => lv_aload_n F.1 F.2.1 hd rfl (hl.2 _ _ hv).1 (kk p e s m args below meth c H locs ls F S P X hl)
theorem z_aload {i : Nat} {x : Nat} (hd : decode C.cc pc = .ok (.aload i, 2)) (hv : L[i]? = some (some (.ref x))) (kk : zG C k n (pc + 2) L (.ref x :: st) h) : zG C k n pc L (st) h :=
  fun p e s m args below meth c H locs ls F S P X hl => lv_aload F.1 F.2.1 hd (hl.2 _ _ hv).1 (kk p e s m args below meth c H locs ls F S P X hl)
theorem z_aload_nN {j : Fin 4} (hd : decode C.cc pc = .ok (.aload_n j, 1)) (hv : L[(j : Nat)]? = some (some .null)) (kk : zG C k n (pc + 1) L (.null :: st) h) : zG C k n pc L (st) h :=
  fun p e s m args below meth c H locs ls F S P X hl => lv_aload_nN F.1 F.2.1 hd rfl (hl.2 _ _ hv).1 (kk p e s m args below meth c H locs ls F S P X hl)
theorem z_aloadN {i : Nat} (hd : decode C.cc pc = .ok (.aload i, 2)) (hv : L[i]? = some (some .null)) (kk : zG C k n (pc + 2) L (.null :: st) h) : zG C k n pc L (st) h :=
  fun p e s m args below meth c H locs ls F S P X hl => lv_aloadN F.1 F.2.1 hd (hl.2 _ _ hv).1 (kk p e s m args below meth c H locs ls F S P X hl)
theorem z_null (hd : decode C.cc pc = .ok (.aconst_null, 1)) (kk : zG C k n (pc + 1) L (.null :: st) h) : zG C k n pc L (st) h :=
  fun p e s m args below meth c H locs ls F S P X hl => lv_null F.1 F.2.1 hd (kk p e s m args below meth c H locs ls F S P X hl)
theorem z_iadd {x y : Int32} (hd : decode C.cc pc = .ok (.iadd, 1)) (kk : zG C k n (pc + 1) L (.int (x + y) :: st) h) : zG C k n pc L (.int y :: .int x :: st) h :=
  fun p e s m args below meth c H locs ls F S P X hl => lv_iadd F.1 F.2.1 hd (kk p e s m args below meth c H locs ls F S P X hl)
theorem z_isub {x y : Int32} (hd : decode C.cc pc = .ok (.isub, 1)) (kk : zG C k n (pc + 1) L (.int (x - y) :: st) h) : zG C k n pc L (.int y :: .int x :: st) h :=
  fun p e s m args below meth c H locs ls F S P X hl => lv_isub F.1 F.2.1 hd (kk p e s m args below meth c H locs ls F S P X hl)
theorem z_imul {x y : Int32} (hd : decode C.cc pc = .ok (.imul, 1)) (kk : zG C k n (pc + 1) L (.int (x * y) :: st) h) : zG C k n pc L (.int y :: .int x :: st) h :=
  fun p e s m args below meth c H locs ls F S P X hl => lv_imul F.1 F.2.1 hd (kk p e s m args below meth c H locs ls F S P X hl)
theorem z_iand {x y : Int32} (hd : decode C.cc pc = .ok (.iand, 1)) (kk : zG C k n (pc + 1) L (.int (x &&& y) :: st) h) : zG C k n pc L (.int y :: .int x :: st) h :=
  fun p e s m args below meth c H locs ls F S P X hl => lv_iand F.1 F.2.1 hd (kk p e s m args below meth c H locs ls F S P X hl)
theorem z_ior {x y : Int32} (hd : decode C.cc pc = .ok (.ior, 1)) (kk : zG C k n (pc + 1) L (.int (x ||| y) :: st) h) : zG C k n pc L (.int y :: .int x :: st) h :=
  fun p e s m args below meth c H locs ls F S P X hl => lv_ior F.1 F.2.1 hd (kk p e s m args below meth c H locs ls F S P X hl)
theorem z_ixor {x y : Int32} (hd : decode C.cc pc = .ok (.ixor, 1)) (kk : zG C k n (pc + 1) L (.int (x ^^^ y) :: st) h) : zG C k n pc L (.int y :: .int x :: st) h :=
  fun p e s m args below meth c H locs ls F S P X hl => lv_ixor F.1 F.2.1 hd (kk p e s m args below meth c H locs ls F S P X hl)
theorem z_ishl {x y : Int32} (hd : decode C.cc pc = .ok (.ishl, 1)) (kk : zG C k n (pc + 1) L (.int (x <<< (y &&& 31)) :: st) h) : zG C k n pc L (.int y :: .int x :: st) h :=
  fun p e s m args below meth c H locs ls F S P X hl => lv_ishl F.1 F.2.1 hd (kk p e s m args below meth c H locs ls F S P X hl)
theorem z_ishr {x y : Int32} (hd : decode C.cc pc = .ok (.ishr, 1)) (kk : zG C k n (pc + 1) L (.int (x >>> (y &&& 31)) :: st) h) : zG C k n pc L (.int y :: .int x :: st) h :=
  fun p e s m args below meth c H locs ls F S P X hl => lv_ishr F.1 F.2.1 hd (kk p e s m args below meth c H locs ls F S P X hl)
theorem z_iushr {x y : Int32} (hd : decode C.cc pc = .ok (.iushr, 1)) (kk : zG C k n (pc + 1) L (.int (x.toUInt32 >>> (y.toUInt32 &&& Int32.toUInt32 31)).toInt32 :: st) h) : zG C k n pc L (.int y :: .int x :: st) h :=
  fun p e s m args below meth c H locs ls F S P X hl => lv_iushr F.1 F.2.1 hd rfl (kk p e s m args below meth c H locs ls F S P X hl)
theorem z_irem {x y : Int32} (hd : decode C.cc pc = .ok (.irem, 1)) (hne : ¬ y = 0) (kk : zG C k n (pc + 1) L (.int (x - x / y * y) :: st) h) : zG C k n pc L (.int y :: .int x :: st) h :=
  fun p e s m args below meth c H locs ls F S P X hl => lv_irem F.1 F.2.1 hd hne (kk p e s m args below meth c H locs ls F S P X hl)
theorem z_dup {v : Value} (hd : decode C.cc pc = .ok (.dup, 1)) (hv : v.category = 1) (kk : zG C k n (pc + 1) L (v :: v :: st) h) : zG C k n pc L (v :: st) h :=
  fun p e s m args below meth c H locs ls F S P X hl => lv_dup F.1 F.2.1 hd hv (kk p e s m args below meth c H locs ls F S P X hl)
theorem z_pop {v : Value} (hd : decode C.cc pc = .ok (.pop, 1)) (hv : v.category = 1) (kk : zG C k n (pc + 1) L (st) h) : zG C k n pc L (v :: st) h :=
  fun p e s m args below meth c H locs ls F S P X hl => lv_pop F.1 F.2.1 hd hv (kk p e s m args below meth c H locs ls F S P X hl)
theorem z_dup_x1 {v w : Value} (hd : decode C.cc pc = .ok (.dup_x1, 1)) (hv : v.category = 1) (hw : w.category = 1) (kk : zG C k n (pc + 1) L (v :: w :: v :: st) h) : zG C k n pc L (v :: w :: st) h :=
  fun p e s m args below meth c H locs ls F S P X hl => lv_dup_x1 F.1 F.2.1 hd hv hw (kk p e s m args below meth c H locs ls F S P X hl)
theorem z_dup2 {v w : Value} (hd : decode C.cc pc = .ok (.dup2, 1)) (hv : v.category = 1) (hw : w.category = 1) (kk : zG C k n (pc + 1) L (v :: w :: v :: w :: st) h) : zG C k n pc L (v :: w :: st) h :=
  fun p e s m args below meth c H locs ls F S P X hl => lv_dup2_11 F.1 F.2.1 hd hv hw (kk p e s m args below meth c H locs ls F S P X hl)
theorem z_if_eq {x : Int32} {off : Int} {tgt : Nat} (hd : decode C.cc pc = .ok (.ifCond .eq off, 3)) (ht : (pc : Int) + off = (tgt : Int)) (kt : x = 0 → zG C k n tgt L st h) (kf : ¬ x = 0 → zG C k n (pc + 3) L st h) : zG C k n pc L (.int x :: st) h :=
  fun p e s m args below meth c H locs ls F S P X hl => lv_if_eq F.1 F.2.1 hd ht (fun q => kt q p e s m args below meth c H locs ls F S P X hl) (fun q => kf q p e s m args below meth c H locs ls F S P X hl)
theorem z_if_ne {x : Int32} {off : Int} {tgt : Nat} (hd : decode C.cc pc = .ok (.ifCond .ne off, 3)) (ht : (pc : Int) + off = (tgt : Int)) (kt : ¬ x = 0 → zG C k n tgt L st h) (kf : x = 0 → zG C k n (pc + 3) L st h) : zG C k n pc L (.int x :: st) h :=
  fun p e s m args below meth c H locs ls F S P X hl => lv_if_ne F.1 F.2.1 hd ht (fun q => kt q p e s m args below meth c H locs ls F S P X hl) (fun q => kf q p e s m args below meth c H locs ls F S P X hl)
theorem z_if_lt {x : Int32} {off : Int} {tgt : Nat} (hd : decode C.cc pc = .ok (.ifCond .lt off, 3)) (ht : (pc : Int) + off = (tgt : Int)) (kt : x < 0 → zG C k n tgt L st h) (kf : ¬ x < 0 → zG C k n (pc + 3) L st h) : zG C k n pc L (.int x :: st) h :=
  fun p e s m args below meth c H locs ls F S P X hl => lv_if_lt F.1 F.2.1 hd ht (fun q => kt q p e s m args below meth c H locs ls F S P X hl) (fun q => kf q p e s m args below meth c H locs ls F S P X hl)
theorem z_if_ge {x : Int32} {off : Int} {tgt : Nat} (hd : decode C.cc pc = .ok (.ifCond .ge off, 3)) (ht : (pc : Int) + off = (tgt : Int)) (kt : 0 ≤ x → zG C k n tgt L st h) (kf : ¬ 0 ≤ x → zG C k n (pc + 3) L st h) : zG C k n pc L (.int x :: st) h :=
  fun p e s m args below meth c H locs ls F S P X hl => lv_if_ge F.1 F.2.1 hd ht (fun q => kt q p e s m args below meth c H locs ls F S P X hl) (fun q => kf q p e s m args below meth c H locs ls F S P X hl)
theorem z_if_gt {x : Int32} {off : Int} {tgt : Nat} (hd : decode C.cc pc = .ok (.ifCond .gt off, 3)) (ht : (pc : Int) + off = (tgt : Int)) (kt : 0 < x → zG C k n tgt L st h) (kf : ¬ 0 < x → zG C k n (pc + 3) L st h) : zG C k n pc L (.int x :: st) h :=
  fun p e s m args below meth c H locs ls F S P X hl => lv_if_gt F.1 F.2.1 hd ht (fun q => kt q p e s m args below meth c H locs ls F S P X hl) (fun q => kf q p e s m args below meth c H locs ls F S P X hl)
theorem z_if_le {x : Int32} {off : Int} {tgt : Nat} (hd : decode C.cc pc = .ok (.ifCond .le off, 3)) (ht : (pc : Int) + off = (tgt : Int)) (kt : x ≤ 0 → zG C k n tgt L st h) (kf : ¬ x ≤ 0 → zG C k n (pc + 3) L st h) : zG C k n pc L (.int x :: st) h :=
  fun p e s m args below meth c H locs ls F S P X hl => lv_if_le F.1 F.2.1 hd ht (fun q => kt q p e s m args below meth c H locs ls F S P X hl) (fun q => kf q p e s m args below meth c H locs ls F S P X hl)
theorem z_icmp_eq {x y : Int32} {off : Int} {tgt : Nat} (hd : decode C.cc pc = .ok (.if_icmp .eq off, 3)) (ht : (pc : Int) + off = (tgt : Int)) (kt : x = y → zG C k n tgt L st h) (kf : ¬ x = y → zG C k n (pc + 3) L st h) : zG C k n pc L (.int y :: .int x :: st) h :=
  fun p e s m args below meth c H locs ls F S P X hl => lv_icmp_eq F.1 F.2.1 hd ht (fun q => kt q p e s m args below meth c H locs ls F S P X hl) (fun q => kf q p e s m args below meth c H locs ls F S P X hl)
theorem z_icmp_ne {x y : Int32} {off : Int} {tgt : Nat} (hd : decode C.cc pc = .ok (.if_icmp .ne off, 3)) (ht : (pc : Int) + off = (tgt : Int)) (kt : ¬ x = y → zG C k n tgt L st h) (kf : x = y → zG C k n (pc + 3) L st h) : zG C k n pc L (.int y :: .int x :: st) h :=
  fun p e s m args below meth c H locs ls F S P X hl => lv_icmp_ne F.1 F.2.1 hd ht (fun q => kt q p e s m args below meth c H locs ls F S P X hl) (fun q => kf q p e s m args below meth c H locs ls F S P X hl)
theorem z_icmp_lt {x y : Int32} {off : Int} {tgt : Nat} (hd : decode C.cc pc = .ok (.if_icmp .lt off, 3)) (ht : (pc : Int) + off = (tgt : Int)) (kt : x < y → zG C k n tgt L st h) (kf : ¬ x < y → zG C k n (pc + 3) L st h) : zG C k n pc L (.int y :: .int x :: st) h :=
  fun p e s m args below meth c H locs ls F S P X hl => lv_icmp_lt F.1 F.2.1 hd ht (fun q => kt q p e s m args below meth c H locs ls F S P X hl) (fun q => kf q p e s m args below meth c H locs ls F S P X hl)
theorem z_icmp_ge {x y : Int32} {off : Int} {tgt : Nat} (hd : decode C.cc pc = .ok (.if_icmp .ge off, 3)) (ht : (pc : Int) + off = (tgt : Int)) (kt : y ≤ x → zG C k n tgt L st h) (kf : ¬ y ≤ x → zG C k n (pc + 3) L st h) : zG C k n pc L (.int y :: .int x :: st) h :=
  fun p e s m args below meth c H locs ls F S P X hl => lv_icmp_ge F.1 F.2.1 hd ht (fun q => kt q p e s m args below meth c H locs ls F S P X hl) (fun q => kf q p e s m args below meth c H locs ls F S P X hl)
theorem z_icmp_gt {x y : Int32} {off : Int} {tgt : Nat} (hd : decode C.cc pc = .ok (.if_icmp .gt off, 3)) (ht : (pc : Int) + off = (tgt : Int)) (kt : y < x → zG C k n tgt L st h) (kf : ¬ y < x → zG C k n (pc + 3) L st h) : zG C k n pc L (.int y :: .int x :: st) h :=
  fun p e s m args below meth c H locs ls F S P X hl => lv_icmp_gt F.1 F.2.1 hd ht (fun q => kt q p e s m args below meth c H locs ls F S P X hl) (fun q => kf q p e s m args below meth c H locs ls F S P X hl)
theorem z_icmp_le {x y : Int32} {off : Int} {tgt : Nat} (hd : decode C.cc pc = .ok (.if_icmp .le off, 3)) (ht : (pc : Int) + off = (tgt : Int)) (kt : x ≤ y → zG C k n tgt L st h) (kf : ¬ x ≤ y → zG C k n (pc + 3) L st h) : zG C k n pc L (.int y :: .int x :: st) h :=
  fun p e s m args below meth c H locs ls F S P X hl => lv_icmp_le F.1 F.2.1 hd ht (fun q => kt q p e s m args below meth c H locs ls F S P X hl) (fun q => kf q p e s m args below meth c H locs ls F S P X hl)
theorem z_acmp_eq {x y : Option Nat} {off : Int} {tgt : Nat} (hd : decode C.cc pc = .ok (.if_acmp .eq off, 3)) (ht : (pc : Int) + off = (tgt : Int)) (kt : x = y → zG C k n tgt L st h) (kf : ¬ x = y → zG C k n (pc + 3) L st h) : zG C k n pc L (va_rf y :: va_rf x :: st) h :=
  fun p e s m args below meth c H locs ls F S P X hl => lv_acmp_eq F.1 F.2.1 hd ht (fun q => kt q p e s m args below meth c H locs ls F S P X hl) (fun q => kf q p e s m args below meth c H locs ls F S P X hl)
theorem z_acmp_ne {x y : Option Nat} {off : Int} {tgt : Nat} (hd : decode C.cc pc = .ok (.if_acmp .ne off, 3)) (ht : (pc : Int) + off = (tgt : Int)) (kt : ¬ x = y → zG C k n tgt L st h) (kf : x = y → zG C k n (pc + 3) L st h) : zG C k n pc L (va_rf y :: va_rf x :: st) h :=
  fun p e s m args below meth c H locs ls F S P X hl => lv_acmp_ne F.1 F.2.1 hd ht (fun q => kt q p e s m args below meth c H locs ls F S P X hl) (fun q => kf q p e s m args below meth c H locs ls F S P X hl)
theorem z_goto {off : Int} {tgt : Nat} (hd : decode C.cc pc = .ok (.goto off, 3)) (ht : (pc : Int) + off = (tgt : Int)) (kk : zG C k n tgt L st h) : zG C k n pc L st h :=
  fun p e s m args below meth c H locs ls F S P X hl => lv_goto F.1 F.2.1 hd ht (kk p e s m args below meth c H locs ls F S P X hl)
theorem z_ifnullR {x : Nat} {off : Int} (hd : decode C.cc pc = .ok (.ifnull off, 3)) (kk : zG C k n (pc + 3) L st h) : zG C k n pc L (.ref x :: st) h :=
  fun p e s m args below meth c H locs ls F S P X hl => lv_ifnull F.1 F.2.1 hd (kk p e s m args below meth c H locs ls F S P X hl)
theorem z_ifnullN {off : Int} {tgt : Nat} (hd : decode C.cc pc = .ok (.ifnull off, 3)) (ht : (pc : Int) + off = (tgt : Int)) (kk : zG C k n tgt L st h) : zG C k n pc L (.null :: st) h :=
  fun p e s m args below meth c H locs ls F S P X hl => lv_ifnullN F.1 F.2.1 hd ht (kk p e s m args below meth c H locs ls F S P X hl)
theorem z_ifnonnullR {x : Nat} {off : Int} {tgt : Nat} (hd : decode C.cc pc = .ok (.ifnonnull off, 3)) (ht : (pc : Int) + off = (tgt : Int)) (kk : zG C k n tgt L st h) : zG C k n pc L (.ref x :: st) h :=
  fun p e s m args below meth c H locs ls F S P X hl => lv_ifnonnull F.1 F.2.1 hd ht (kk p e s m args below meth c H locs ls F S P X hl)
theorem z_ifnonnullN {off : Int} (hd : decode C.cc pc = .ok (.ifnonnull off, 3)) (kk : zG C k n (pc + 3) L st h) : zG C k n pc L (.null :: st) h :=
  fun p e s m args below meth c H locs ls F S P X hl => lv_ifnonnullN F.1 F.2.1 hd (kk p e s m args below meth c H locs ls F S P X hl)
theorem z_istore_n {j : Fin 4} {x : Int32} (hd : decode C.cc pc = .ok (.istore_n j, 1)) (hi : (j : Nat) < C.nL) (kk : zG C k n (pc + 1) (L.set (j : Nat) (some (.int x))) st h) : zG C k n pc L (.int x :: st) h :=
  fun p e s m args below meth c H locs ls F S P X hl => lv_istore_n F.1 F.2.1 hd rfl (zlh_has hl) hi rfl (fun ls' h' => kk p e s m args below meth c H locs ls' F S P X (zlh_store hl rfl h'))
theorem z_istore {i : Nat} {x : Int32} (hd : decode C.cc pc = .ok (.istore i, 2)) (hi : i < C.nL) (kk : zG C k n (pc + 2) (L.set i (some (.int x))) st h) : zG C k n pc L (.int x :: st) h :=
  fun p e s m args below meth c H locs ls F S P X hl => lv_istore F.1 F.2.1 hd (zlh_has hl) hi rfl (fun ls' h' => kk p e s m args below meth c H locs ls' F S P X (zlh_store hl rfl h'))
theorem z_astore_n {j : Fin 4} {x : Nat} (hd : decode C.cc pc = .ok (.astore_n j, 1)) (hi : (j : Nat) < C.nL) (kk : zG C k n (pc + 1) (L.set (j : Nat) (some (.ref x))) st h) : zG C k n pc L (.ref x :: st) h :=
  fun p e s m args below meth c H locs ls F S P X hl => lv_astore_n F.1 F.2.1 hd rfl (zlh_has hl) hi rfl (fun ls' h' => kk p e s m args below meth c H locs ls' F S P X (zlh_store hl rfl h'))
theorem z_astore {i : Nat} {x : Nat} (hd : decode C.cc pc = .ok (.astore i, 2)) (hi : i < C.nL) (kk : zG C k n (pc + 2) (L.set i (some (.ref x))) st h) : zG C k n pc L (.ref x :: st) h :=
  fun p e s m args below meth c H locs ls F S P X hl => lv_astore F.1 F.2.1 hd (zlh_has hl) hi rfl (fun ls' h' => kk p e s m args below meth c H locs ls' F S P X (zlh_store hl rfl h'))
theorem z_astoreN_n {j : Fin 4}  (hd : decode C.cc pc = .ok (.astore_n j, 1)) (hi : (j : Nat) < C.nL) (kk : zG C k n (pc + 1) (L.set (j : Nat) (some (.null))) st h) : zG C k n pc L (.null :: st) h :=
  fun p e s m args below meth c H locs ls F S P X hl => lv_astore_nN F.1 F.2.1 hd rfl (zlh_has hl) hi rfl (fun ls' h' => kk p e s m args below meth c H locs ls' F S P X (zlh_store hl rfl h'))
theorem z_astoreN {i : Nat}  (hd : decode C.cc pc = .ok (.astore i, 2)) (hi : i < C.nL) (kk : zG C k n (pc + 2) (L.set i (some (.null))) st h) : zG C k n pc L (.null :: st) h :=
  fun p e s m args below meth c H locs ls F S P X hl => lv_astoreN F.1 F.2.1 hd (zlh_has hl) hi rfl (fun ls' h' => kk p e s m args below meth c H locs ls' F S P X (zlh_store hl rfl h'))
theorem z_iinc {i : Nat} {z : Int} {x v : Int32} (hd : decode C.cc pc = .ok (.iinc i z, 3)) (hi : i < C.nL) (hx : L[i]? = some (some (.int x))) (hv : x + Int32.ofInt z = v) (kk : zG C k n (pc + 3) (L.set i (some (.int v))) st h) : zG C k n pc L st h := by
  intro p e s m args below meth c H locs ls F S P X hl
  obtain ⟨j, hj⟩ := zlh_pos hx
  exact lv_iinc F.1 F.2.1 hd (zlh_has hl) hj hv hi rfl (fun ls' h' => kk p e s m args below meth c H locs ls' F S P X (zlh_store hl rfl h'))
theorem z_tabOut {df lo hi : Int} {offs : Array Int} {len : Nat} {x : Int32} {tgt : Nat} (hd : decode C.cc pc = .ok (.tableswitch df lo hi offs, len)) (hx : x.toInt < lo ∨ hi < x.toInt) (ht : (pc : Int) + df = (tgt : Int)) (kk : zG C k n tgt L st h) : zG C k n pc L (.int x :: st) h :=
  fun p e s m args below meth c H locs ls F S P X hl => lv_tableOut F.1 F.2.1 hd hx ht (kk p e s m args below meth c H locs ls F S P X hl)
theorem z_tabIn {df lo hi : Int} {offs : Array Int} {len : Nat} {x : Int32} {off : Int} {tgt : Nat} (hd : decode C.cc pc = .ok (.tableswitch df lo hi offs, len)) (h1 : ¬ x.toInt < lo) (h2 : ¬ hi < x.toInt) (ho : offs[(x.toInt - lo).toNat]? = some off) (ht : (pc : Int) + off = (tgt : Int)) (kk : zG C k n tgt L st h) : zG C k n pc L (.int x :: st) h :=
  fun p e s m args below meth c H locs ls F S P X hl => lv_tableIn F.1 F.2.1 hd h1 h2 ho ht (kk p e s m args below meth c H locs ls F S P X hl)
theorem z_ldc {i : Nat} {v : Int32} (hw : Cond.constant C.own i v ∈ zT) (hd : decode C.cc pc = .ok (.ldc i, 2)) (kk : zG C k n (pc + 2) L (.int v :: st) h) : zG C k n pc L st h :=
  fun p e s m args below meth c H locs ls F S P X hl => lv_ldc F.1 F.2.1 F.2.2.2.2.2.1 (zKK_w F.2.2.2.2.2.2.2.2.1 args _ hw) hd (kk p e s m args below meth c H locs ls F S P X hl)
end ZR
