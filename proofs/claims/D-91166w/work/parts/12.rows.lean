/-! THE ROWS over the ghost heap -/
set_option maxRecDepth 100000
theorem g_start {l : Launch} {y : MethodName} {cc : ByteArray} {nl : Nat} {ret : Option FieldType} {rm : Room} {G : gG} {av : List Value} {M : gH} {Post : Option Value → gH → Prop} {mc ms : Nat} (hy : plainName y.cls = true) (hlen : (lg_sl av).length ≤ nl)
    (body : ∀ x, GX x l G y cc rm nl ret → GW x (gQx x Post mc ms) M 0 0 0 (lv_args 0 av) []) : GMet l y (ws_ y cc nl ret) rm G av M Post mc ms := by
  refine Met.ofW (cc := cc) (maxL := nl) (ret := ret) hy rfl ?_
  intro p e s m args below meth c s₁ B hml hv
  obtain ⟨rfl, hM, hK, hb⟩ := hv
  have hts := atoms_spec (ws := ws_ y cc nl ret) B.pre
  have hts : ∀ w ∈ lw_all, w.before _ s = true := fun w h => hts w (List.mem_cons_of_mem _ h)
  have hl := lv_entry av (n := nl) hlen
  have K := body (p, l, e, rm, s, m, av.toArray, below, meth, c, G, nl) ⟨rfl, rfl, rfl, rfl, B.exec, B.bytes, hml, findClass_of_methodNamed B.named, (name_of_methodNamed B.named B.method).1, hts, B.notSynchronized, B.returns, hK, hb⟩ s.heap [] _ hM va_S.rf hl
  rw [lg_entry_eq]
  exact K
section GR
variable {x : gX} {l : Launch} {G : gG} {y : MethodName} {cc : ByteArray} {rm : Room} {nl : Nat} {ret : Option FieldType} {Q : State → Prop} {M : gH} {k n pc : Nat} {lv : List (Nat × Value)} {st : List Value}
theorem g_lv {lv' : List (Nat × Value)} (ks : List Nat) (h : lv_pick lv ks = lv') (K : GW x Q M k n pc lv' st) : GW x Q M k n pc lv st := by
  obtain ⟨p, l0, e, R, s, m, args, below, meth, c, G0, nL⟩ := x
  intro H locs ls hM hS hl
  exact K H locs ls hM hS (lv_sub hl ks h)
theorem g_widen {k' n' : Nat} (h1 : k ≤ k') (h2 : n ≤ n') (K : GW x Q M k' n' pc lv st) : GW x Q M k n pc lv st := by
  obtain ⟨p, l0, e, R, s, m, args, below, meth, c, G0, nL⟩ := x
  intro H locs ls hM hS hl
  exact W.widen h1 h2 (K H locs ls hM hS hl)
theorem g_top {a b : Int} (h : a = b) (K : GW x Q M k n pc lv (.int (iI b) :: st)) : GW x Q M k n pc lv (.int (iI a) :: st) := by rw [h]; exact K
theorem g_st {st' : List Value} (h : st = st') (K : GW x Q M k n pc lv st') : GW x Q M k n pc lv st := by rw [h]; exact K
theorem g_M {M' : gH} (h : M = M') (K : GW x Q M' k n pc lv st) : GW x Q M k n pc lv st := by rw [h]; exact K

theorem g_iconst (hx : GX x l G y cc rm nl ret) {z : Int} (hd : decode cc pc = .ok (.iconst z, 1))  (K : GW x Q M k n (pc + 1) lv (.int (iI z) :: st)) : GW x Q M k n pc lv st := by
  obtain ⟨p, l0, e, R, s, m, args, below, meth, c, G0, nL⟩ := x
  obtain ⟨rfl, rfl, rfl, rfl, h1, h2, h3, h4, h5, h6, h7, h8, h9, h10⟩ := hx
  intro H locs ls hM hS hl
  exact lv_iconst (v := iI z) h1 h2 hd rfl (K H locs ls hM hS hl)
theorem g_bipush (hx : GX x l G y cc rm nl ret) {z : Int} (hd : decode cc pc = .ok (.bipush z, 2)) (hz : (Int8.ofInt z).toInt32 = iI z) (K : GW x Q M k n (pc + 2) lv (.int (iI z) :: st)) : GW x Q M k n pc lv st := by
  obtain ⟨p, l0, e, R, s, m, args, below, meth, c, G0, nL⟩ := x
  obtain ⟨rfl, rfl, rfl, rfl, h1, h2, h3, h4, h5, h6, h7, h8, h9, h10⟩ := hx
  intro H locs ls hM hS hl
  exact lv_bipush (v := iI z) h1 h2 hd hz (K H locs ls hM hS hl)
theorem g_sipush (hx : GX x l G y cc rm nl ret) {z : Int} (hd : decode cc pc = .ok (.sipush z, 3)) (hz : (Int16.ofInt z).toInt32 = iI z) (K : GW x Q M k n (pc + 3) lv (.int (iI z) :: st)) : GW x Q M k n pc lv st := by
  obtain ⟨p, l0, e, R, s, m, args, below, meth, c, G0, nL⟩ := x
  obtain ⟨rfl, rfl, rfl, rfl, h1, h2, h3, h4, h5, h6, h7, h8, h9, h10⟩ := hx
  intro H locs ls hM hS hl
  exact lv_sipush (v := iI z) h1 h2 hd hz (K H locs ls hM hS hl)
theorem g_ldc (hx : GX x l G y cc rm nl ret) {z : Int} {index : Nat} (hd : decode cc pc = .ok (.ldc index, 2)) (hq : Cond.constant y.cls index (iI z) ∈ lw_all) (K : GW x Q M k n (pc + 2) lv (.int (iI z) :: st)) : GW x Q M k n pc lv st := by
  obtain ⟨p, l0, e, R, s, m, args, below, meth, c, G0, nL⟩ := x
  obtain ⟨rfl, rfl, rfl, rfl, h1, h2, h3, h4, h5, h6, h7, h8, h9, h10⟩ := hx
  intro H locs ls hM hS hl
  exact lv_ldc (v := iI z) h1 h2 h4 (h6 _ hq) hd (K H locs ls hM hS hl)
theorem g_iload_n (hx : GX x l G y cc rm nl ret) (j : Nat) {kk : Fin 4} {i : Nat} {z : Int32} (hd : decode cc pc = .ok (.iload_n kk, 1)) (hi : (kk : Nat) = i) (hv : lv[j]? = some (i, .int z)) (K : GW x Q M k n (pc + 1) lv (.int z :: st)) : GW x Q M k n pc lv st := by
  obtain ⟨p, l0, e, R, s, m, args, below, meth, c, G0, nL⟩ := x
  obtain ⟨rfl, rfl, rfl, rfl, h1, h2, h3, h4, h5, h6, h7, h8, h9, h10⟩ := hx
  intro H locs ls hM hS hl
  exact lv_iload_n h1 h2 hd hi (lv_at hl j hv) (K H locs ls hM hS hl)
theorem g_iload (hx : GX x l G y cc rm nl ret) (j : Nat) {i : Nat} {z : Int32} (hd : decode cc pc = .ok (.iload i, 2)) (hv : lv[j]? = some (i, .int z)) (K : GW x Q M k n (pc + 2) lv (.int z :: st)) : GW x Q M k n pc lv st := by
  obtain ⟨p, l0, e, R, s, m, args, below, meth, c, G0, nL⟩ := x
  obtain ⟨rfl, rfl, rfl, rfl, h1, h2, h3, h4, h5, h6, h7, h8, h9, h10⟩ := hx
  intro H locs ls hM hS hl
  exact lv_iload h1 h2 hd (lv_at hl j hv) (K H locs ls hM hS hl)
theorem g_aload_n (hx : GX x l G y cc rm nl ret) (j : Nat) {kk : Fin 4} {i : Nat} {z : Nat} (hd : decode cc pc = .ok (.aload_n kk, 1)) (hi : (kk : Nat) = i) (hv : lv[j]? = some (i, .ref z)) (K : GW x Q M k n (pc + 1) lv (.ref z :: st)) : GW x Q M k n pc lv st := by
  obtain ⟨p, l0, e, R, s, m, args, below, meth, c, G0, nL⟩ := x
  obtain ⟨rfl, rfl, rfl, rfl, h1, h2, h3, h4, h5, h6, h7, h8, h9, h10⟩ := hx
  intro H locs ls hM hS hl
  exact lv_aload_n h1 h2 hd hi (lv_at hl j hv) (K H locs ls hM hS hl)
theorem g_aload (hx : GX x l G y cc rm nl ret) (j : Nat) {i : Nat} {z : Nat} (hd : decode cc pc = .ok (.aload i, 2)) (hv : lv[j]? = some (i, .ref z)) (K : GW x Q M k n (pc + 2) lv (.ref z :: st)) : GW x Q M k n pc lv st := by
  obtain ⟨p, l0, e, R, s, m, args, below, meth, c, G0, nL⟩ := x
  obtain ⟨rfl, rfl, rfl, rfl, h1, h2, h3, h4, h5, h6, h7, h8, h9, h10⟩ := hx
  intro H locs ls hM hS hl
  exact lv_aload h1 h2 hd (lv_at hl j hv) (K H locs ls hM hS hl)
theorem g_aload_nN (hx : GX x l G y cc rm nl ret) (j : Nat) {kk : Fin 4} {i : Nat} (hd : decode cc pc = .ok (.aload_n kk, 1)) (hi : (kk : Nat) = i) (hv : lv[j]? = some (i, .null)) (K : GW x Q M k n (pc + 1) lv (.null :: st)) : GW x Q M k n pc lv st := by
  obtain ⟨p, l0, e, R, s, m, args, below, meth, c, G0, nL⟩ := x
  obtain ⟨rfl, rfl, rfl, rfl, h1, h2, h3, h4, h5, h6, h7, h8, h9, h10⟩ := hx
  intro H locs ls hM hS hl
  exact lv_aload_nN h1 h2 hd hi (lv_at hl j hv) (K H locs ls hM hS hl)
theorem g_aloadN (hx : GX x l G y cc rm nl ret) (j : Nat) {i : Nat} (hd : decode cc pc = .ok (.aload i, 2)) (hv : lv[j]? = some (i, .null)) (K : GW x Q M k n (pc + 2) lv (.null :: st)) : GW x Q M k n pc lv st := by
  obtain ⟨p, l0, e, R, s, m, args, below, meth, c, G0, nL⟩ := x
  obtain ⟨rfl, rfl, rfl, rfl, h1, h2, h3, h4, h5, h6, h7, h8, h9, h10⟩ := hx
  intro H locs ls hM hS hl
  exact lv_aloadN h1 h2 hd (lv_at hl j hv) (K H locs ls hM hS hl)
theorem g_istore_n (hx : GX x l G y cc rm nl ret) {lv' : List (Nat × Value)} {kk : Fin 4} {i : Nat} {z : Int32} (hd : decode cc pc = .ok (.istore_n kk, 1)) (hi : (kk : Nat) = i) (hn : i < nl) (he : (i, Value.int z) :: lv.filter (fun q => !(q.1 == i) && !(q.1 + 1 == i && q.2.category == 2)) = lv') (K : GW x Q M k n (pc + 1) lv' st) : GW x Q M k n pc lv (.int z :: st) := by
  obtain ⟨p, l0, e, R, s, m, args, below, meth, c, G0, nL⟩ := x
  obtain ⟨rfl, rfl, rfl, rfl, h1, h2, h3, h4, h5, h6, h7, h8, h9, h10⟩ := hx
  intro H locs ls hM hS hl
  exact lv_istore_n h1 h2 hd hi hl hn he (fun ls hl => (K H locs ls hM hS hl))
theorem g_istore (hx : GX x l G y cc rm nl ret) {lv' : List (Nat × Value)} {i : Nat} {z : Int32} (hd : decode cc pc = .ok (.istore i, 2)) (hn : i < nl) (he : (i, Value.int z) :: lv.filter (fun q => !(q.1 == i) && !(q.1 + 1 == i && q.2.category == 2)) = lv') (K : GW x Q M k n (pc + 2) lv' st) : GW x Q M k n pc lv (.int z :: st) := by
  obtain ⟨p, l0, e, R, s, m, args, below, meth, c, G0, nL⟩ := x
  obtain ⟨rfl, rfl, rfl, rfl, h1, h2, h3, h4, h5, h6, h7, h8, h9, h10⟩ := hx
  intro H locs ls hM hS hl
  exact lv_istore h1 h2 hd hl hn he (fun ls hl => (K H locs ls hM hS hl))
theorem g_astore_n (hx : GX x l G y cc rm nl ret) {lv' : List (Nat × Value)} {kk : Fin 4} {i : Nat} {z : Nat} (hd : decode cc pc = .ok (.astore_n kk, 1)) (hi : (kk : Nat) = i) (hn : i < nl) (he : (i, Value.ref z) :: lv.filter (fun q => !(q.1 == i) && !(q.1 + 1 == i && q.2.category == 2)) = lv') (K : GW x Q M k n (pc + 1) lv' st) : GW x Q M k n pc lv (.ref z :: st) := by
  obtain ⟨p, l0, e, R, s, m, args, below, meth, c, G0, nL⟩ := x
  obtain ⟨rfl, rfl, rfl, rfl, h1, h2, h3, h4, h5, h6, h7, h8, h9, h10⟩ := hx
  intro H locs ls hM hS hl
  exact lv_astore_n h1 h2 hd hi hl hn he (fun ls hl => (K H locs ls hM hS hl))
theorem g_astore (hx : GX x l G y cc rm nl ret) {lv' : List (Nat × Value)} {i : Nat} {z : Nat} (hd : decode cc pc = .ok (.astore i, 2)) (hn : i < nl) (he : (i, Value.ref z) :: lv.filter (fun q => !(q.1 == i) && !(q.1 + 1 == i && q.2.category == 2)) = lv') (K : GW x Q M k n (pc + 2) lv' st) : GW x Q M k n pc lv (.ref z :: st) := by
  obtain ⟨p, l0, e, R, s, m, args, below, meth, c, G0, nL⟩ := x
  obtain ⟨rfl, rfl, rfl, rfl, h1, h2, h3, h4, h5, h6, h7, h8, h9, h10⟩ := hx
  intro H locs ls hM hS hl
  exact lv_astore h1 h2 hd hl hn he (fun ls hl => (K H locs ls hM hS hl))
theorem g_astore_nN (hx : GX x l G y cc rm nl ret) {lv' : List (Nat × Value)} {kk : Fin 4} {i : Nat} (hd : decode cc pc = .ok (.astore_n kk, 1)) (hi : (kk : Nat) = i) (hn : i < nl) (he : (i, Value.null) :: lv.filter (fun q => !(q.1 == i) && !(q.1 + 1 == i && q.2.category == 2)) = lv') (K : GW x Q M k n (pc + 1) lv' st) : GW x Q M k n pc lv (.null :: st) := by
  obtain ⟨p, l0, e, R, s, m, args, below, meth, c, G0, nL⟩ := x
  obtain ⟨rfl, rfl, rfl, rfl, h1, h2, h3, h4, h5, h6, h7, h8, h9, h10⟩ := hx
  intro H locs ls hM hS hl
  exact lv_astore_nN h1 h2 hd hi hl hn he (fun ls hl => (K H locs ls hM hS hl))
theorem g_astoreN (hx : GX x l G y cc rm nl ret) {lv' : List (Nat × Value)} {i : Nat} (hd : decode cc pc = .ok (.astore i, 2)) (hn : i < nl) (he : (i, Value.null) :: lv.filter (fun q => !(q.1 == i) && !(q.1 + 1 == i && q.2.category == 2)) = lv') (K : GW x Q M k n (pc + 2) lv' st) : GW x Q M k n pc lv (.null :: st) := by
  obtain ⟨p, l0, e, R, s, m, args, below, meth, c, G0, nL⟩ := x
  obtain ⟨rfl, rfl, rfl, rfl, h1, h2, h3, h4, h5, h6, h7, h8, h9, h10⟩ := hx
  intro H locs ls hM hS hl
  exact lv_astoreN h1 h2 hd hl hn he (fun ls hl => (K H locs ls hM hS hl))
theorem g_iinc (hx : GX x l G y cc rm nl ret) {lv' : List (Nat × Value)} (j : Nat) {i : Nat} {a z b : Int} (hd : decode cc pc = .ok (.iinc i z, 3)) (hv : lv[j]? = some (i, .int (iI a))) (hb : a + z = b) (hn : i < nl) (he : (i, Value.int (iI b)) :: lv.filter (fun q => !(q.1 == i) && !(q.1 + 1 == i && q.2.category == 2)) = lv') (K : GW x Q M k n (pc + 3) lv' st) : GW x Q M k n pc lv st := by
  obtain ⟨p, l0, e, R, s, m, args, below, meth, c, G0, nL⟩ := x
  obtain ⟨rfl, rfl, rfl, rfl, h1, h2, h3, h4, h5, h6, h7, h8, h9, h10⟩ := hx
  intro H locs ls hM hS hl
  exact lv_iinc (v := iI b) h1 h2 hd hl hv (by rw [← hb]; exact iI_add a z) hn he (fun ls hl => (K H locs ls hM hS hl))
theorem g_iadd (hx : GX x l G y cc rm nl ret) {a b : Int} (hd : decode cc pc = .ok (.iadd, 1))  (K : GW x Q M k n (pc + 1) lv (.int (iI (a + b)) :: st)) : GW x Q M k n pc lv (.int (iI b) :: .int (iI a) :: st) := by
  obtain ⟨p, l0, e, R, s, m, args, below, meth, c, G0, nL⟩ := x
  obtain ⟨rfl, rfl, rfl, rfl, h1, h2, h3, h4, h5, h6, h7, h8, h9, h10⟩ := hx
  intro H locs ls hM hS hl
  rw [← iI_add] at K
  exact lv_iadd h1 h2 hd (K H locs ls hM hS hl)
theorem g_isub (hx : GX x l G y cc rm nl ret) {a b : Int} (hd : decode cc pc = .ok (.isub, 1))  (K : GW x Q M k n (pc + 1) lv (.int (iI (a - b)) :: st)) : GW x Q M k n pc lv (.int (iI b) :: .int (iI a) :: st) := by
  obtain ⟨p, l0, e, R, s, m, args, below, meth, c, G0, nL⟩ := x
  obtain ⟨rfl, rfl, rfl, rfl, h1, h2, h3, h4, h5, h6, h7, h8, h9, h10⟩ := hx
  intro H locs ls hM hS hl
  rw [← iI_sub] at K
  exact lv_isub h1 h2 hd (K H locs ls hM hS hl)
theorem g_imul (hx : GX x l G y cc rm nl ret) {a b : Int} (hd : decode cc pc = .ok (.imul, 1))  (K : GW x Q M k n (pc + 1) lv (.int (iI (a * b)) :: st)) : GW x Q M k n pc lv (.int (iI b) :: .int (iI a) :: st) := by
  obtain ⟨p, l0, e, R, s, m, args, below, meth, c, G0, nL⟩ := x
  obtain ⟨rfl, rfl, rfl, rfl, h1, h2, h3, h4, h5, h6, h7, h8, h9, h10⟩ := hx
  intro H locs ls hM hS hl
  rw [← iI_mul] at K
  exact lv_imul h1 h2 hd (K H locs ls hM hS hl)
theorem g_ineg (hx : GX x l G y cc rm nl ret) {a : Int} (hd : decode cc pc = .ok (.ineg, 1))  (K : GW x Q M k n (pc + 1) lv (.int (iI (-a)) :: st)) : GW x Q M k n pc lv (.int (iI a) :: st) := by
  obtain ⟨p, l0, e, R, s, m, args, below, meth, c, G0, nL⟩ := x
  obtain ⟨rfl, rfl, rfl, rfl, h1, h2, h3, h4, h5, h6, h7, h8, h9, h10⟩ := hx
  intro H locs ls hM hS hl
  rw [← iI_neg] at K
  exact lv_ineg h1 h2 hd (K H locs ls hM hS hl)
theorem g_idiv (hx : GX x l G y cc rm nl ret) {a b : Int} (hd : decode cc pc = .ok (.idiv, 1)) (ha : 0 ≤ a ∧ a ≤ 2147483647) (hb : 0 < b ∧ b ≤ 2147483647) (K : GW x Q M k n (pc + 1) lv (.int (iI (a / b)) :: st)) : GW x Q M k n pc lv (.int (iI b) :: .int (iI a) :: st) := by
  obtain ⟨p, l0, e, R, s, m, args, below, meth, c, G0, nL⟩ := x
  obtain ⟨rfl, rfl, rfl, rfl, h1, h2, h3, h4, h5, h6, h7, h8, h9, h10⟩ := hx
  intro H locs ls hM hS hl
  rw [← iI_div ha hb] at K
  refine lv_idiv h1 h2 hd (fun q => ?_) (K H locs ls hM hS hl)
  have := (iI_eq (a := b) (b := 0) (by omega) (by omega)).mp q
  omega
theorem g_irem (hx : GX x l G y cc rm nl ret) {a b : Int} (hd : decode cc pc = .ok (.irem, 1)) (ha : 0 ≤ a ∧ a ≤ 2147483647) (hb : 0 < b ∧ b ≤ 2147483647) (K : GW x Q M k n (pc + 1) lv (.int (iI (a % b)) :: st)) : GW x Q M k n pc lv (.int (iI b) :: .int (iI a) :: st) := by
  obtain ⟨p, l0, e, R, s, m, args, below, meth, c, G0, nL⟩ := x
  obtain ⟨rfl, rfl, rfl, rfl, h1, h2, h3, h4, h5, h6, h7, h8, h9, h10⟩ := hx
  intro H locs ls hM hS hl
  rw [← iI_rem ha hb] at K
  refine lv_irem h1 h2 hd (fun q => ?_) (K H locs ls hM hS hl)
  have := (iI_eq (a := b) (b := 0) (by omega) (by omega)).mp q
  omega
theorem g_ishr (hx : GX x l G y cc rm nl ret) {a : Int} {s0 : Nat} (hd : decode cc pc = .ok (.ishr, 1)) (ha : 0 ≤ a ∧ a ≤ 2147483647) (hs : s0 < 32) (K : GW x Q M k n (pc + 1) lv (.int (iI (a / (2 ^ s0 : Nat))) :: st)) : GW x Q M k n pc lv (.int (iI (s0 : Int)) :: .int (iI a) :: st) := by
  obtain ⟨p, l0, e, R, s, m, args, below, meth, c, G0, nL⟩ := x
  obtain ⟨rfl, rfl, rfl, rfl, h1, h2, h3, h4, h5, h6, h7, h8, h9, h10⟩ := hx
  intro H locs ls hM hS hl
  rw [← iI_shr ha hs] at K
  exact lv_ishr h1 h2 hd (K H locs ls hM hS hl)
theorem g_ishl (hx : GX x l G y cc rm nl ret) {a : Int} {s0 : Nat} (hd : decode cc pc = .ok (.ishl, 1)) (ha : 0 ≤ a) (hs : s0 < 32) (hr : a * (2 ^ s0 : Nat) ≤ 2147483647) (K : GW x Q M k n (pc + 1) lv (.int (iI (a * (2 ^ s0 : Nat))) :: st)) : GW x Q M k n pc lv (.int (iI (s0 : Int)) :: .int (iI a) :: st) := by
  obtain ⟨p, l0, e, R, s, m, args, below, meth, c, G0, nL⟩ := x
  obtain ⟨rfl, rfl, rfl, rfl, h1, h2, h3, h4, h5, h6, h7, h8, h9, h10⟩ := hx
  intro H locs ls hM hS hl
  rw [← iI_shl ha hs hr] at K
  exact lv_ishl h1 h2 hd (K H locs ls hM hS hl)
theorem g_iand1 (hx : GX x l G y cc rm nl ret) {a : Int} (hd : decode cc pc = .ok (.iand, 1)) (ha : 0 ≤ a ∧ a ≤ 2147483647) (K : GW x Q M k n (pc + 1) lv (.int (iI (a % 2)) :: st)) : GW x Q M k n pc lv (.int (iI 1) :: .int (iI a) :: st) := by
  obtain ⟨p, l0, e, R, s, m, args, below, meth, c, G0, nL⟩ := x
  obtain ⟨rfl, rfl, rfl, rfl, h1, h2, h3, h4, h5, h6, h7, h8, h9, h10⟩ := hx
  intro H locs ls hM hS hl
  rw [← iI_and1 ha] at K
  exact lv_iand h1 h2 hd (K H locs ls hM hS hl)
theorem g_iand (hx : GX x l G y cc rm nl ret) {a b : Int32} (hd : decode cc pc = .ok (.iand, 1))  (K : GW x Q M k n (pc + 1) lv (.int (a &&& b) :: st)) : GW x Q M k n pc lv (.int b :: .int a :: st) := by
  obtain ⟨p, l0, e, R, s, m, args, below, meth, c, G0, nL⟩ := x
  obtain ⟨rfl, rfl, rfl, rfl, h1, h2, h3, h4, h5, h6, h7, h8, h9, h10⟩ := hx
  intro H locs ls hM hS hl
  exact lv_iand h1 h2 hd (K H locs ls hM hS hl)
theorem g_ior (hx : GX x l G y cc rm nl ret) {a b : Nat} (hd : decode cc pc = .ok (.ior, 1))  (K : GW x Q M k n (pc + 1) lv (.int (iI ((a ||| b : Nat) : Int)) :: st)) : GW x Q M k n pc lv (.int (iI (b : Int)) :: .int (iI (a : Int)) :: st) := by
  obtain ⟨p, l0, e, R, s, m, args, below, meth, c, G0, nL⟩ := x
  obtain ⟨rfl, rfl, rfl, rfl, h1, h2, h3, h4, h5, h6, h7, h8, h9, h10⟩ := hx
  intro H locs ls hM hS hl
  rw [← iI_or] at K
  exact lv_ior h1 h2 hd (K H locs ls hM hS hl)
theorem g_dup (hx : GX x l G y cc rm nl ret) {v : Value} (hd : decode cc pc = .ok (.dup, 1)) (hc : v.category = 1) (K : GW x Q M k n (pc + 1) lv (v :: v :: st)) : GW x Q M k n pc lv (v :: st) := by
  obtain ⟨p, l0, e, R, s, m, args, below, meth, c, G0, nL⟩ := x
  obtain ⟨rfl, rfl, rfl, rfl, h1, h2, h3, h4, h5, h6, h7, h8, h9, h10⟩ := hx
  intro H locs ls hM hS hl
  exact lv_dup h1 h2 hd hc (K H locs ls hM hS hl)
theorem g_pop (hx : GX x l G y cc rm nl ret) {v : Value} (hd : decode cc pc = .ok (.pop, 1)) (hc : v.category = 1) (K : GW x Q M k n (pc + 1) lv st) : GW x Q M k n pc lv (v :: st) := by
  obtain ⟨p, l0, e, R, s, m, args, below, meth, c, G0, nL⟩ := x
  obtain ⟨rfl, rfl, rfl, rfl, h1, h2, h3, h4, h5, h6, h7, h8, h9, h10⟩ := hx
  intro H locs ls hM hS hl
  exact lv_pop h1 h2 hd hc (K H locs ls hM hS hl)
theorem g_dup_x1 (hx : GX x l G y cc rm nl ret) {v w : Value} (hd : decode cc pc = .ok (.dup_x1, 1)) (hc : v.category = 1) (hc2 : w.category = 1) (K : GW x Q M k n (pc + 1) lv (v :: w :: v :: st)) : GW x Q M k n pc lv (v :: w :: st) := by
  obtain ⟨p, l0, e, R, s, m, args, below, meth, c, G0, nL⟩ := x
  obtain ⟨rfl, rfl, rfl, rfl, h1, h2, h3, h4, h5, h6, h7, h8, h9, h10⟩ := hx
  intro H locs ls hM hS hl
  exact lv_dup_x1 h1 h2 hd hc hc2 (K H locs ls hM hS hl)
theorem g_dup2 (hx : GX x l G y cc rm nl ret) {v w : Value} (hd : decode cc pc = .ok (.dup2, 1)) (hc : v.category = 1) (hc2 : w.category = 1) (K : GW x Q M k n (pc + 1) lv (v :: w :: v :: w :: st)) : GW x Q M k n pc lv (v :: w :: st) := by
  obtain ⟨p, l0, e, R, s, m, args, below, meth, c, G0, nL⟩ := x
  obtain ⟨rfl, rfl, rfl, rfl, h1, h2, h3, h4, h5, h6, h7, h8, h9, h10⟩ := hx
  intro H locs ls hM hS hl
  exact lv_dup2_11 h1 h2 hd hc hc2 (K H locs ls hM hS hl)
theorem g_null (hx : GX x l G y cc rm nl ret)  (hd : decode cc pc = .ok (.aconst_null, 1))  (K : GW x Q M k n (pc + 1) lv (.null :: st)) : GW x Q M k n pc lv st := by
  obtain ⟨p, l0, e, R, s, m, args, below, meth, c, G0, nL⟩ := x
  obtain ⟨rfl, rfl, rfl, rfl, h1, h2, h3, h4, h5, h6, h7, h8, h9, h10⟩ := hx
  intro H locs ls hM hS hl
  exact lv_null h1 h2 hd (K H locs ls hM hS hl)
theorem g_icmp_eq (hx : GX x l G y cc rm nl ret) {a b : Int} {off : Int} (tgt : Nat) (ha : -2147483648 ≤ a ∧ a ≤ 2147483647) (hb : -2147483648 ≤ b ∧ b ≤ 2147483647) (hd : decode cc pc = .ok (.if_icmp .eq off, 3)) (ht : (pc : Int) + off = (tgt : Int)) (K1 : a = b → GW x Q M k n tgt lv st) (K2 : ¬ a = b → GW x Q M k n (pc + 3) lv st) : GW x Q M k n pc lv (.int (iI b) :: .int (iI a) :: st) := by
  obtain ⟨p, l0, e, R, s, m, args, below, meth, c, G0, nL⟩ := x
  obtain ⟨rfl, rfl, rfl, rfl, h1, h2, h3, h4, h5, h6, h7, h8, h9, h10⟩ := hx
  intro H locs ls hM hS hl
  exact lv_icmp_eq h1 h2 hd ht (fun q => K1 ((iI_eq ha hb).mp q) H locs ls hM hS hl) (fun q => K2 (fun r => q ((iI_eq ha hb).mpr r)) H locs ls hM hS hl)
theorem g_if_eq (hx : GX x l G y cc rm nl ret) {a : Int} {off : Int} (tgt : Nat) (ha : -2147483648 ≤ a ∧ a ≤ 2147483647) (hd : decode cc pc = .ok (.ifCond .eq off, 3)) (ht : (pc : Int) + off = (tgt : Int)) (K1 : a = 0 → GW x Q M k n tgt lv st) (K2 : ¬ a = 0 → GW x Q M k n (pc + 3) lv st) : GW x Q M k n pc lv (.int (iI a) :: st) := by
  obtain ⟨p, l0, e, R, s, m, args, below, meth, c, G0, nL⟩ := x
  obtain ⟨rfl, rfl, rfl, rfl, h1, h2, h3, h4, h5, h6, h7, h8, h9, h10⟩ := hx
  intro H locs ls hM hS hl
  have b_0 : (-2147483648 : Int) ≤ 0 ∧ (0 : Int) ≤ 2147483647 := by decide
  exact lv_if_eq h1 h2 hd ht (fun q => K1 ((iI_eq ha (b_0)).mp q) H locs ls hM hS hl) (fun q => K2 (fun r => q ((iI_eq ha (b_0)).mpr r)) H locs ls hM hS hl)
theorem g_icmp_ne (hx : GX x l G y cc rm nl ret) {a b : Int} {off : Int} (tgt : Nat) (ha : -2147483648 ≤ a ∧ a ≤ 2147483647) (hb : -2147483648 ≤ b ∧ b ≤ 2147483647) (hd : decode cc pc = .ok (.if_icmp .ne off, 3)) (ht : (pc : Int) + off = (tgt : Int)) (K1 : ¬ a = b → GW x Q M k n tgt lv st) (K2 : a = b → GW x Q M k n (pc + 3) lv st) : GW x Q M k n pc lv (.int (iI b) :: .int (iI a) :: st) := by
  obtain ⟨p, l0, e, R, s, m, args, below, meth, c, G0, nL⟩ := x
  obtain ⟨rfl, rfl, rfl, rfl, h1, h2, h3, h4, h5, h6, h7, h8, h9, h10⟩ := hx
  intro H locs ls hM hS hl
  exact lv_icmp_ne h1 h2 hd ht (fun q => K1 (fun r => q ((iI_eq ha hb).mpr r)) H locs ls hM hS hl) (fun q => K2 ((iI_eq ha hb).mp q) H locs ls hM hS hl)
theorem g_if_ne (hx : GX x l G y cc rm nl ret) {a : Int} {off : Int} (tgt : Nat) (ha : -2147483648 ≤ a ∧ a ≤ 2147483647) (hd : decode cc pc = .ok (.ifCond .ne off, 3)) (ht : (pc : Int) + off = (tgt : Int)) (K1 : ¬ a = 0 → GW x Q M k n tgt lv st) (K2 : a = 0 → GW x Q M k n (pc + 3) lv st) : GW x Q M k n pc lv (.int (iI a) :: st) := by
  obtain ⟨p, l0, e, R, s, m, args, below, meth, c, G0, nL⟩ := x
  obtain ⟨rfl, rfl, rfl, rfl, h1, h2, h3, h4, h5, h6, h7, h8, h9, h10⟩ := hx
  intro H locs ls hM hS hl
  have b_0 : (-2147483648 : Int) ≤ 0 ∧ (0 : Int) ≤ 2147483647 := by decide
  exact lv_if_ne h1 h2 hd ht (fun q => K1 (fun r => q ((iI_eq ha (b_0)).mpr r)) H locs ls hM hS hl) (fun q => K2 ((iI_eq ha (b_0)).mp q) H locs ls hM hS hl)
theorem g_icmp_lt (hx : GX x l G y cc rm nl ret) {a b : Int} {off : Int} (tgt : Nat) (ha : -2147483648 ≤ a ∧ a ≤ 2147483647) (hb : -2147483648 ≤ b ∧ b ≤ 2147483647) (hd : decode cc pc = .ok (.if_icmp .lt off, 3)) (ht : (pc : Int) + off = (tgt : Int)) (K1 : a < b → GW x Q M k n tgt lv st) (K2 : ¬ a < b → GW x Q M k n (pc + 3) lv st) : GW x Q M k n pc lv (.int (iI b) :: .int (iI a) :: st) := by
  obtain ⟨p, l0, e, R, s, m, args, below, meth, c, G0, nL⟩ := x
  obtain ⟨rfl, rfl, rfl, rfl, h1, h2, h3, h4, h5, h6, h7, h8, h9, h10⟩ := hx
  intro H locs ls hM hS hl
  exact lv_icmp_lt h1 h2 hd ht (fun q => K1 ((iI_lt ha hb).mp q) H locs ls hM hS hl) (fun q => K2 (fun r => q ((iI_lt ha hb).mpr r)) H locs ls hM hS hl)
theorem g_if_lt (hx : GX x l G y cc rm nl ret) {a : Int} {off : Int} (tgt : Nat) (ha : -2147483648 ≤ a ∧ a ≤ 2147483647) (hd : decode cc pc = .ok (.ifCond .lt off, 3)) (ht : (pc : Int) + off = (tgt : Int)) (K1 : a < 0 → GW x Q M k n tgt lv st) (K2 : ¬ a < 0 → GW x Q M k n (pc + 3) lv st) : GW x Q M k n pc lv (.int (iI a) :: st) := by
  obtain ⟨p, l0, e, R, s, m, args, below, meth, c, G0, nL⟩ := x
  obtain ⟨rfl, rfl, rfl, rfl, h1, h2, h3, h4, h5, h6, h7, h8, h9, h10⟩ := hx
  intro H locs ls hM hS hl
  have b_0 : (-2147483648 : Int) ≤ 0 ∧ (0 : Int) ≤ 2147483647 := by decide
  exact lv_if_lt h1 h2 hd ht (fun q => K1 ((iI_lt ha (b_0)).mp q) H locs ls hM hS hl) (fun q => K2 (fun r => q ((iI_lt ha (b_0)).mpr r)) H locs ls hM hS hl)
theorem g_icmp_ge (hx : GX x l G y cc rm nl ret) {a b : Int} {off : Int} (tgt : Nat) (ha : -2147483648 ≤ a ∧ a ≤ 2147483647) (hb : -2147483648 ≤ b ∧ b ≤ 2147483647) (hd : decode cc pc = .ok (.if_icmp .ge off, 3)) (ht : (pc : Int) + off = (tgt : Int)) (K1 : b ≤ a → GW x Q M k n tgt lv st) (K2 : ¬ b ≤ a → GW x Q M k n (pc + 3) lv st) : GW x Q M k n pc lv (.int (iI b) :: .int (iI a) :: st) := by
  obtain ⟨p, l0, e, R, s, m, args, below, meth, c, G0, nL⟩ := x
  obtain ⟨rfl, rfl, rfl, rfl, h1, h2, h3, h4, h5, h6, h7, h8, h9, h10⟩ := hx
  intro H locs ls hM hS hl
  exact lv_icmp_ge h1 h2 hd ht (fun q => K1 ((iI_le hb ha).mp q) H locs ls hM hS hl) (fun q => K2 (fun r => q ((iI_le hb ha).mpr r)) H locs ls hM hS hl)
theorem g_if_ge (hx : GX x l G y cc rm nl ret) {a : Int} {off : Int} (tgt : Nat) (ha : -2147483648 ≤ a ∧ a ≤ 2147483647) (hd : decode cc pc = .ok (.ifCond .ge off, 3)) (ht : (pc : Int) + off = (tgt : Int)) (K1 : 0 ≤ a → GW x Q M k n tgt lv st) (K2 : ¬ 0 ≤ a → GW x Q M k n (pc + 3) lv st) : GW x Q M k n pc lv (.int (iI a) :: st) := by
  obtain ⟨p, l0, e, R, s, m, args, below, meth, c, G0, nL⟩ := x
  obtain ⟨rfl, rfl, rfl, rfl, h1, h2, h3, h4, h5, h6, h7, h8, h9, h10⟩ := hx
  intro H locs ls hM hS hl
  have b_0 : (-2147483648 : Int) ≤ 0 ∧ (0 : Int) ≤ 2147483647 := by decide
  exact lv_if_ge h1 h2 hd ht (fun q => K1 ((iI_le (b_0) ha).mp q) H locs ls hM hS hl) (fun q => K2 (fun r => q ((iI_le (b_0) ha).mpr r)) H locs ls hM hS hl)
theorem g_icmp_gt (hx : GX x l G y cc rm nl ret) {a b : Int} {off : Int} (tgt : Nat) (ha : -2147483648 ≤ a ∧ a ≤ 2147483647) (hb : -2147483648 ≤ b ∧ b ≤ 2147483647) (hd : decode cc pc = .ok (.if_icmp .gt off, 3)) (ht : (pc : Int) + off = (tgt : Int)) (K1 : b < a → GW x Q M k n tgt lv st) (K2 : ¬ b < a → GW x Q M k n (pc + 3) lv st) : GW x Q M k n pc lv (.int (iI b) :: .int (iI a) :: st) := by
  obtain ⟨p, l0, e, R, s, m, args, below, meth, c, G0, nL⟩ := x
  obtain ⟨rfl, rfl, rfl, rfl, h1, h2, h3, h4, h5, h6, h7, h8, h9, h10⟩ := hx
  intro H locs ls hM hS hl
  exact lv_icmp_gt h1 h2 hd ht (fun q => K1 ((iI_lt hb ha).mp q) H locs ls hM hS hl) (fun q => K2 (fun r => q ((iI_lt hb ha).mpr r)) H locs ls hM hS hl)
theorem g_if_gt (hx : GX x l G y cc rm nl ret) {a : Int} {off : Int} (tgt : Nat) (ha : -2147483648 ≤ a ∧ a ≤ 2147483647) (hd : decode cc pc = .ok (.ifCond .gt off, 3)) (ht : (pc : Int) + off = (tgt : Int)) (K1 : 0 < a → GW x Q M k n tgt lv st) (K2 : ¬ 0 < a → GW x Q M k n (pc + 3) lv st) : GW x Q M k n pc lv (.int (iI a) :: st) := by
  obtain ⟨p, l0, e, R, s, m, args, below, meth, c, G0, nL⟩ := x
  obtain ⟨rfl, rfl, rfl, rfl, h1, h2, h3, h4, h5, h6, h7, h8, h9, h10⟩ := hx
  intro H locs ls hM hS hl
  have b_0 : (-2147483648 : Int) ≤ 0 ∧ (0 : Int) ≤ 2147483647 := by decide
  exact lv_if_gt h1 h2 hd ht (fun q => K1 ((iI_lt (b_0) ha).mp q) H locs ls hM hS hl) (fun q => K2 (fun r => q ((iI_lt (b_0) ha).mpr r)) H locs ls hM hS hl)
theorem g_icmp_le (hx : GX x l G y cc rm nl ret) {a b : Int} {off : Int} (tgt : Nat) (ha : -2147483648 ≤ a ∧ a ≤ 2147483647) (hb : -2147483648 ≤ b ∧ b ≤ 2147483647) (hd : decode cc pc = .ok (.if_icmp .le off, 3)) (ht : (pc : Int) + off = (tgt : Int)) (K1 : a ≤ b → GW x Q M k n tgt lv st) (K2 : ¬ a ≤ b → GW x Q M k n (pc + 3) lv st) : GW x Q M k n pc lv (.int (iI b) :: .int (iI a) :: st) := by
  obtain ⟨p, l0, e, R, s, m, args, below, meth, c, G0, nL⟩ := x
  obtain ⟨rfl, rfl, rfl, rfl, h1, h2, h3, h4, h5, h6, h7, h8, h9, h10⟩ := hx
  intro H locs ls hM hS hl
  exact lv_icmp_le h1 h2 hd ht (fun q => K1 ((iI_le ha hb).mp q) H locs ls hM hS hl) (fun q => K2 (fun r => q ((iI_le ha hb).mpr r)) H locs ls hM hS hl)
theorem g_if_le (hx : GX x l G y cc rm nl ret) {a : Int} {off : Int} (tgt : Nat) (ha : -2147483648 ≤ a ∧ a ≤ 2147483647) (hd : decode cc pc = .ok (.ifCond .le off, 3)) (ht : (pc : Int) + off = (tgt : Int)) (K1 : a ≤ 0 → GW x Q M k n tgt lv st) (K2 : ¬ a ≤ 0 → GW x Q M k n (pc + 3) lv st) : GW x Q M k n pc lv (.int (iI a) :: st) := by
  obtain ⟨p, l0, e, R, s, m, args, below, meth, c, G0, nL⟩ := x
  obtain ⟨rfl, rfl, rfl, rfl, h1, h2, h3, h4, h5, h6, h7, h8, h9, h10⟩ := hx
  intro H locs ls hM hS hl
  have b_0 : (-2147483648 : Int) ≤ 0 ∧ (0 : Int) ≤ 2147483647 := by decide
  exact lv_if_le h1 h2 hd ht (fun q => K1 ((iI_le ha (b_0)).mp q) H locs ls hM hS hl) (fun q => K2 (fun r => q ((iI_le ha (b_0)).mpr r)) H locs ls hM hS hl)
theorem g_if_eqP (hx : GX x l G y cc rm nl ret) {P : Prop} {off : Int} (tgt : Nat) (hd : decode cc pc = .ok (.ifCond .eq off, 3)) (ht : (pc : Int) + off = (tgt : Int)) (K1 : ¬ P → GW x Q M k n tgt lv st) (K2 : P → GW x Q M k n (pc + 3) lv st) : GW x Q M k n pc lv (.int (iI (bz P)) :: st) :=
  g_if_eq hx tgt (by have := bz_rg P; omega) hd ht (fun q => K1 (bz_0.mp q)) (fun q => K2 (Classical.byContradiction fun r => q (bz_f r)))
theorem g_if_neP (hx : GX x l G y cc rm nl ret) {P : Prop} {off : Int} (tgt : Nat) (hd : decode cc pc = .ok (.ifCond .ne off, 3)) (ht : (pc : Int) + off = (tgt : Int)) (K1 : P → GW x Q M k n tgt lv st) (K2 : ¬ P → GW x Q M k n (pc + 3) lv st) : GW x Q M k n pc lv (.int (iI (bz P)) :: st) :=
  g_if_ne hx tgt (by have := bz_rg P; omega) hd ht (fun q => K1 (Classical.byContradiction fun r => q (bz_f r))) (fun q => K2 (bz_0.mp q))
theorem g_goto (hx : GX x l G y cc rm nl ret) {off : Int} (tgt : Nat) (hd : decode cc pc = .ok (.goto off, 3)) (ht : (pc : Int) + off = (tgt : Int)) (K : GW x Q M k n tgt lv st) : GW x Q M k n pc lv st := by
  obtain ⟨p, l0, e, R, s, m, args, below, meth, c, G0, nL⟩ := x
  obtain ⟨rfl, rfl, rfl, rfl, h1, h2, h3, h4, h5, h6, h7, h8, h9, h10⟩ := hx
  intro H locs ls hM hS hl
  exact lv_goto h1 h2 hd ht (K H locs ls hM hS hl)
theorem g_tsAt (hx : GX x l G y cc rm nl ret) {a dflt lo hi off : Int} {offs : Array Int} {len : Nat} (z : Int) (tgt : Nat) (hz : a = z) (hr : -2147483648 ≤ z ∧ z ≤ 2147483647 ∧ lo ≤ z ∧ z ≤ hi) (hd : decode cc pc = .ok (.tableswitch dflt lo hi offs, len)) (ho : offs[(z - lo).toNat]? = some off) (ht : (pc : Int) + off = (tgt : Int)) (K : GW x Q M k n tgt lv st) : GW x Q M k n pc lv (.int (iI a) :: st) := by
  obtain ⟨p, l0, e, R, s, m, args, below, meth, c, G0, nL⟩ := x
  obtain ⟨rfl, rfl, rfl, rfl, h1, h2, h3, h4, h5, h6, h7, h8, h9, h10⟩ := hx
  intro H locs ls hM hS hl
  subst hz
  have e : (iI a).toInt = a := iI_t ⟨hr.1, hr.2.1⟩
  exact lv_tableIn h1 h2 hd (by rw [e]; omega) (by rw [e]; omega) (by rw [e]; exact ho) ht (K H locs ls hM hS hl)
theorem g_tsOut (hx : GX x l G y cc rm nl ret) {a dflt lo hi : Int} {offs : Array Int} {len : Nat} (tgt : Nat) (hr : -2147483648 ≤ a ∧ a ≤ 2147483647) (ha : a < lo ∨ hi < a) (hd : decode cc pc = .ok (.tableswitch dflt lo hi offs, len)) (ht : (pc : Int) + dflt = (tgt : Int)) (K : GW x Q M k n tgt lv st) : GW x Q M k n pc lv (.int (iI a) :: st) := by
  obtain ⟨p, l0, e, R, s, m, args, below, meth, c, G0, nL⟩ := x
  obtain ⟨rfl, rfl, rfl, rfl, h1, h2, h3, h4, h5, h6, h7, h8, h9, h10⟩ := hx
  intro H locs ls hM hS hl
  have e : (iI a).toInt = a := iI_t hr
  exact lv_tableOut h1 h2 hd (by rw [e]; exact ha) ht (K H locs ls hM hS hl)
theorem g_ifnonnull (hx : GX x l G y cc rm nl ret) {a : Nat} {off : Int} (tgt : Nat) (hd : decode cc pc = .ok (.ifnonnull off, 3)) (ht : (pc : Int) + off = (tgt : Int)) (K : GW x Q M k n tgt lv st) : GW x Q M k n pc lv (.ref a :: st) := by
  obtain ⟨p, l0, e, R, s, m, args, below, meth, c, G0, nL⟩ := x
  obtain ⟨rfl, rfl, rfl, rfl, h1, h2, h3, h4, h5, h6, h7, h8, h9, h10⟩ := hx
  intro H locs ls hM hS hl
  exact lv_ifnonnull h1 h2 hd ht (K H locs ls hM hS hl)
theorem g_ifnull (hx : GX x l G y cc rm nl ret) {a : Nat} {off : Int} (hd : decode cc pc = .ok (.ifnull off, 3)) (K : GW x Q M k n (pc + 3) lv st) : GW x Q M k n pc lv (.ref a :: st) := by
  obtain ⟨p, l0, e, R, s, m, args, below, meth, c, G0, nL⟩ := x
  obtain ⟨rfl, rfl, rfl, rfl, h1, h2, h3, h4, h5, h6, h7, h8, h9, h10⟩ := hx
  intro H locs ls hM hS hl
  exact lv_ifnull h1 h2 hd (K H locs ls hM hS hl)
theorem g_ifnullN (hx : GX x l G y cc rm nl ret) {off : Int} (tgt : Nat) (hd : decode cc pc = .ok (.ifnull off, 3)) (ht : (pc : Int) + off = (tgt : Int)) (K : GW x Q M k n tgt lv st) : GW x Q M k n pc lv (.null :: st) := by
  obtain ⟨p, l0, e, R, s, m, args, below, meth, c, G0, nL⟩ := x
  obtain ⟨rfl, rfl, rfl, rfl, h1, h2, h3, h4, h5, h6, h7, h8, h9, h10⟩ := hx
  intro H locs ls hM hS hl
  exact lv_ifnullN h1 h2 hd ht (K H locs ls hM hS hl)
theorem g_ifnonnullN (hx : GX x l G y cc rm nl ret) {off : Int} (hd : decode cc pc = .ok (.ifnonnull off, 3)) (K : GW x Q M k n (pc + 3) lv st) : GW x Q M k n pc lv (.null :: st) := by
  obtain ⟨p, l0, e, R, s, m, args, below, meth, c, G0, nL⟩ := x
  obtain ⟨rfl, rfl, rfl, rfl, h1, h2, h3, h4, h5, h6, h7, h8, h9, h10⟩ := hx
  intro H locs ls hM hS hl
  exact lv_ifnonnullN h1 h2 hd (K H locs ls hM hS hl)
theorem g_acmp_eq (hx : GX x l G y cc rm nl ret) {a b : Nat} {off : Int} (tgt : Nat) (hd : decode cc pc = .ok (.if_acmp .eq off, 3)) (ht : (pc : Int) + off = (tgt : Int)) (K1 : a = b → GW x Q M k n tgt lv st) (K2 : ¬ a = b → GW x Q M k n (pc + 3) lv st) : GW x Q M k n pc lv (.ref b :: .ref a :: st) := by
  obtain ⟨p, l0, e, R, s, m, args, below, meth, c, G0, nL⟩ := x
  obtain ⟨rfl, rfl, rfl, rfl, h1, h2, h3, h4, h5, h6, h7, h8, h9, h10⟩ := hx
  intro H locs ls hM hS hl
  exact lv_acmp_eq (rx := some a) (ry := some b) h1 h2 hd ht (fun q => K1 (Option.some.inj q) H locs ls hM hS hl) (fun q => K2 (fun r => q (by rw [r])) H locs ls hM hS hl)
theorem g_acmp_ne (hx : GX x l G y cc rm nl ret) {a b : Nat} {off : Int} (tgt : Nat) (hd : decode cc pc = .ok (.if_acmp .ne off, 3)) (ht : (pc : Int) + off = (tgt : Int)) (K1 : ¬ a = b → GW x Q M k n tgt lv st) (K2 : a = b → GW x Q M k n (pc + 3) lv st) : GW x Q M k n pc lv (.ref b :: .ref a :: st) := by
  obtain ⟨p, l0, e, R, s, m, args, below, meth, c, G0, nL⟩ := x
  obtain ⟨rfl, rfl, rfl, rfl, h1, h2, h3, h4, h5, h6, h7, h8, h9, h10⟩ := hx
  intro H locs ls hM hS hl
  exact lv_acmp_ne (rx := some a) (ry := some b) h1 h2 hd ht (fun q => K1 (fun r => q (by rw [r])) H locs ls hM hS hl) (fun q => K2 (Option.some.inj q) H locs ls hM hS hl)
theorem g_wd {p : Program} {e : Env} {R : Room} {s : State} {H : Heap} {locs : List Loc} {t : State} {G : gG} {M : gH} (hM : HM G M H) (hS : va_S (gA G) s.heap H locs) (h9 : KK G s s.heap) (h10 : G.2.1 ≤ s.heap.size) (ht : t.heap = H) (hW : s.WarmedH t.vm) : Wd G M t :=
  ⟨by rw [ht]; exact hM, by rw [ht]; exact (h9.kept (fun a ha hna => hS.2.1 a ha hna)).warm hW, by rw [ht]; exact Nat.le_trans h10 hS.1⟩
theorem g_iret (hx : GX x l G y cc rm nl (some .int)) {Post : Option Value → gH → Prop} {mc ms : Nat} {v : Int32} (hk : k ≤ mc) (hn : n ≤ ms) (hd : decode cc pc = .ok (.ireturn, 1)) (hp : Post (some (.int v)) M) : GW x (gQx x Post mc ms) M k n pc lv [.int v] := by
  obtain ⟨p, l0, e, R, s, m, args, below, meth, c, G0, nL⟩ := x
  obtain ⟨rfl, rfl, rfl, rfl, h1, h2, h3, h4, h5, h6, h7, h8, h9, h10⟩ := hx
  intro H locs ls hM hS hl
  refine W.widen hk hn ?_
  exact W.iret h1 h2 h8 (fun t ht hW => ⟨⟨_, M, rfl, hp, g_wd (p := p) (e := e) (R := R) hM hS h9 h10 ht hW⟩, hS.F ht⟩) hS.2.2 hd
theorem g_zret (hx : GX x l G y cc rm nl (some .boolean)) {Post : Option Value → gH → Prop} {mc ms : Nat} {b : Int} (hb : b = 0 ∨ b = 1) (hk : k ≤ mc) (hn : n ≤ ms) (hd : decode cc pc = .ok (.ireturn, 1)) (hp : Post (some (.int (iI b))) M) : GW x (gQx x Post mc ms) M k n pc lv [.int (iI b)] := by
  obtain ⟨p, l0, e, R, s, m, args, below, meth, c, G0, nL⟩ := x
  obtain ⟨rfl, rfl, rfl, rfl, h1, h2, h3, h4, h5, h6, h7, h8, h9, h10⟩ := hx
  intro H locs ls hM hS hl
  refine W.widen hk hn ?_
  exact W.zret h1 h2 h8 (nar_z hb).1 (fun t ht hW => ⟨⟨_, M, rfl, hp, g_wd (p := p) (e := e) (R := R) hM hS h9 h10 ht hW⟩, hS.F ht⟩) hS.2.2 hd
theorem g_vret (hx : GX x l G y cc rm nl none) {Post : Option Value → gH → Prop} {mc ms : Nat} (hk : k ≤ mc) (hn : n ≤ ms) (hd : decode cc pc = .ok (.return_, 1)) (hp : Post none M) : GW x (gQx x Post mc ms) M k n pc lv [] := by
  obtain ⟨p, l0, e, R, s, m, args, below, meth, c, G0, nL⟩ := x
  obtain ⟨rfl, rfl, rfl, rfl, h1, h2, h3, h4, h5, h6, h7, h8, h9, h10⟩ := hx
  intro H locs ls hM hS hl
  refine W.widen hk hn ?_
  exact W.vret h1 h2 h8 (fun t ht hW => ⟨⟨_, M, rfl, hp, g_wd (p := p) (e := e) (R := R) hM hS h9 h10 ht hW⟩, hS.F ht⟩) hS.2.2 hd
theorem g_aret {rt : FieldType} (hx : GX x l G y cc rm nl (some rt)) {Post : Option Value → gH → Prop} {mc ms : Nat} {v : Value} (hrt : (∃ n, rt = .object n) ∨ ∃ t, rt = .array t) (hv : v = .null ∨ ∃ a, v = .ref a) (hk : k ≤ mc) (hn : n ≤ ms) (hd : decode cc pc = .ok (.areturn, 1)) (hp : Post (some v) M) : GW x (gQx x Post mc ms) M k n pc lv [v] := by
  obtain ⟨p, l0, e, R, s, m, args, below, meth, c, G0, nL⟩ := x
  obtain ⟨rfl, rfl, rfl, rfl, h1, h2, h3, h4, h5, h6, h7, h8, h9, h10⟩ := hx
  intro H locs ls hM hS hl
  refine W.widen hk hn ?_
  exact W.aret h1 h2 h8 hrt hv (fun t ht hW => ⟨⟨_, M, rfl, hp, g_wd (p := p) (e := e) (R := R) hM hS h9 h10 ht hW⟩, hS.F ht⟩) hS.2.2 hd
theorem g_get (hx : GX x l G y cc rm nl ret) {a ci N index kf : Nat} {lab : gL} {fs : List Value} {C ref : String} {T : u_T} {v : Value} (hm : M a = some (lab, .inr (ci, fs))) (hc : Cl[ci]? = some (C, T, N)) (hin : ∀ w ∈ u_ws C T N, w ∈ lw_all) (hk : kf < N) (hq : Cond.fieldLink y.cls index ref (T kf).2.1 (T kf).2.2.1 ∈ lw_all) (hsm : ∀ (s : State) (args : Array Value), (∀ w ∈ lw_all, w.before args s = true) → ∀ z, s.fieldFound? (T kf).1 (T kf).2.1 (T kf).2.2.1 = some z → s.fieldFound? ref (T kf).2.1 (T kf).2.2.1 = some z) (hv : fs[kf]? = some v) (hd : decode cc pc = .ok (.getfield index, 3)) (K : GW x Q M k n (pc + 3) lv (v :: st)) : GW x Q M k n pc lv (.ref a :: st) := by
  obtain ⟨p, l0, e, R, s, m, args, below, meth, c, G0, nL⟩ := x
  obtain ⟨rfl, rfl, rfl, rfl, h1, h2, h3, h4, h5, h6, h7, h8, h9, h10⟩ := hx
  intro H locs ls hM hS hl
  obtain ⟨i, hi⟩ := lst_mem (hM.lt hm) hm
  exact va_get h1 h2 h6 hin h4 h9.1 hM.P i hi hc kf hk (h6 _ hq) (hsm _ _ h6) hv hd (K H locs ls hM hS hl)
theorem g_getN (hx : GX x l G y cc rm nl ret) {host : String} {a ci N index kf : Nat} {lab : gL} {fs : List Value} {C ref : String} {T : u_T} {v : Value} (hm : M a = some (lab, .inr (ci, fs))) (hc : Cl[ci]? = some (C, T, N)) (hin : ∀ w ∈ u_ws C T N, w ∈ lw_all) (hk : kf < N) (hq : Cond.fieldLinkNest y.cls index ref (T kf).2.1 (T kf).2.2.1 host ∈ lw_tbl) (hsm : ∀ (s : State) (args : Array Value), (∀ w ∈ lw_all, w.before args s = true) → ∀ z, s.fieldFound? (T kf).1 (T kf).2.1 (T kf).2.2.1 = some z → s.fieldFound? ref (T kf).2.1 (T kf).2.2.1 = some z) (hv : fs[kf]? = some v) (hd : decode cc pc = .ok (.getfield index, 3)) (K : GW x Q M k n (pc + 3) lv (v :: st)) : GW x Q M k n pc lv (.ref a :: st) := by
  obtain ⟨p, l0, e, R, s, m, args, below, meth, c, G0, nL⟩ := x
  obtain ⟨rfl, rfl, rfl, rfl, h1, h2, h3, h4, h5, h6, h7, h8, h9, h10⟩ := hx
  intro H locs ls hM hS hl
  obtain ⟨i, hi⟩ := lst_mem (hM.lt hm) hm
  exact va_getN h1 h2 h6 hin h4 h9.1 hM.P i hi hc kf hk (va_Nw.use rfl (h9.2.1 _ hq rfl)) (hsm _ _ h6) hv hd (K H locs ls hM hS hl)
theorem g_put (hx : GX x l G y cc rm nl ret) {a ci N index kf : Nat} {lab : gL} {fs : List Value} {C ref : String} {T : u_T} {v : Value} (hm : M a = some (lab, .inr (ci, fs))) (hc : Cl[ci]? = some (C, T, N)) (hin : ∀ w ∈ u_ws C T N, w ∈ lw_all) (hk : kf < N) {ty0 : Nat → FieldType} (hty : ∀ k, k < N → parseFieldDescriptor (T k).2.2.1 = some (ty0 k)) (hnm : ∀ a, a < N → ∀ b, b < N → a ≠ b → (T a).2.1 ≠ (T b).2.1) (hq : Cond.fieldLink y.cls index ref (T kf).2.1 (T kf).2.2.1 ∈ lw_all) (hsm : ∀ (s : State) (args : Array Value), (∀ w ∈ lw_all, w.before args s = true) → ∀ z, s.fieldFound? (T kf).1 (T kf).2.1 (T kf).2.2.1 = some z → s.fieldFound? ref (T kf).2.1 (T kf).2.2.1 = some z) (hfin : (T kf).2.2.2 = false) {ty : FieldType} {fs' : List Value} (hds : parseFieldDescriptor (T kf).2.2.1 = some ty) (hn : narrow ty v = v) (hfit : fits ty v = true) (hlen : kf < fs.length) (hfs : fs.set kf v = fs') (hd : decode cc pc = .ok (.putfield index, 3)) (K : GW x Q (up M a (lab, .inr (ci, fs'))) k n (pc + 3) lv st) : GW x Q M k n pc lv (v :: .ref a :: st) := by
  obtain ⟨p, l0, e, R, s, m, args, below, meth, c, G0, nL⟩ := x
  obtain ⟨rfl, rfl, rfl, rfl, h1, h2, h3, h4, h5, h6, h7, h8, h9, h10⟩ := hx
  intro H locs ls hM hS hl
  subst hfs
  obtain ⟨i, hi⟩ := lst_mem (hM.lt hm) hm
  exact va_put h1 h2 h6 hin ty0 hty hnm h4 h9.1 hM.P hM.D hS i hi hc kf hk (h6 _ hq) (hsm _ _ h6) hfin hds hn hfit hlen hd (fun H1 locs1 hP1 hD1 hS1 => K H1 locs1 ls (hM.set hi hP1) hS1 hl)
theorem g_putN (hx : GX x l G y cc rm nl ret) {host : String} {a ci N index kf : Nat} {lab : gL} {fs : List Value} {C ref : String} {T : u_T} {v : Value} (hm : M a = some (lab, .inr (ci, fs))) (hc : Cl[ci]? = some (C, T, N)) (hin : ∀ w ∈ u_ws C T N, w ∈ lw_all) (hk : kf < N) {ty0 : Nat → FieldType} (hty : ∀ k, k < N → parseFieldDescriptor (T k).2.2.1 = some (ty0 k)) (hnm : ∀ a, a < N → ∀ b, b < N → a ≠ b → (T a).2.1 ≠ (T b).2.1) (hq : Cond.fieldLinkNest y.cls index ref (T kf).2.1 (T kf).2.2.1 host ∈ lw_tbl) (hsm : ∀ (s : State) (args : Array Value), (∀ w ∈ lw_all, w.before args s = true) → ∀ z, s.fieldFound? (T kf).1 (T kf).2.1 (T kf).2.2.1 = some z → s.fieldFound? ref (T kf).2.1 (T kf).2.2.1 = some z) (hfin : (T kf).2.2.2 = false) {ty : FieldType} {fs' : List Value} (hds : parseFieldDescriptor (T kf).2.2.1 = some ty) (hn : narrow ty v = v) (hfit : fits ty v = true) (hlen : kf < fs.length) (hfs : fs.set kf v = fs') (hd : decode cc pc = .ok (.putfield index, 3)) (K : GW x Q (up M a (lab, .inr (ci, fs'))) k n (pc + 3) lv st) : GW x Q M k n pc lv (v :: .ref a :: st) := by
  obtain ⟨p, l0, e, R, s, m, args, below, meth, c, G0, nL⟩ := x
  obtain ⟨rfl, rfl, rfl, rfl, h1, h2, h3, h4, h5, h6, h7, h8, h9, h10⟩ := hx
  intro H locs ls hM hS hl
  subst hfs
  obtain ⟨i, hi⟩ := lst_mem (hM.lt hm) hm
  exact va_putN h1 h2 h6 hin ty0 hty hnm h4 h9.1 hM.P hM.D hS i hi hc kf hk (va_Nw.use rfl (h9.2.1 _ hq rfl)) (hsm _ _ h6) hfin hds hn hfit hlen hd (fun H1 locs1 hP1 hD1 hS1 => K H1 locs1 ls (hM.set hi hP1) hS1 hl)
theorem g_putF (hx : GX x l G y cc rm nl ret) {a ci N index kf : Nat} {lab : gL} {fs : List Value} {C ref : String} {T : u_T} {v : Value} (hm : M a = some (lab, .inr (ci, fs))) (hc : Cl[ci]? = some (C, T, N)) (hin : ∀ w ∈ u_ws C T N, w ∈ lw_all) (hk : kf < N) {ty0 : Nat → FieldType} (hty : ∀ k, k < N → parseFieldDescriptor (T k).2.2.1 = some (ty0 k)) (hnm : ∀ a, a < N → ∀ b, b < N → a ≠ b → (T a).2.1 ≠ (T b).2.1) (hq : Cond.fieldLink y.cls index ref (T kf).2.1 (T kf).2.2.1 ∈ lw_all) (hsm : ∀ (s : State) (args : Array Value), (∀ w ∈ lw_all, w.before args s = true) → ∀ z, s.fieldFound? (T kf).1 (T kf).2.1 (T kf).2.2.1 = some z → s.fieldFound? ref (T kf).2.1 (T kf).2.2.1 = some z) (hfin : (T kf).2.2.2 = true) (hin2 : y.name = "<init>") (hdecl : (T kf).1 = y.cls) {ty : FieldType} {fs' : List Value} (hds : parseFieldDescriptor (T kf).2.2.1 = some ty) (hn : narrow ty v = v) (hfit : fits ty v = true) (hlen : kf < fs.length) (hfs : fs.set kf v = fs') (hd : decode cc pc = .ok (.putfield index, 3)) (K : GW x Q (up M a (lab, .inr (ci, fs'))) k n (pc + 3) lv st) : GW x Q M k n pc lv (v :: .ref a :: st) := by
  obtain ⟨p, l0, e, R, s, m, args, below, meth, c, G0, nL⟩ := x
  obtain ⟨rfl, rfl, rfl, rfl, h1, h2, h3, h4, h5, h6, h7, h8, h9, h10⟩ := hx
  intro H locs ls hM hS hl
  subst hfs
  obtain ⟨i, hi⟩ := lst_mem (hM.lt hm) hm
  exact va_putF h1 h2 h6 hin ty0 hty hnm h4 h9.1 hM.P hM.D hS i hi hc kf hk (h6 _ hq) (hsm _ _ h6) hfin (h5.trans hin2) hdecl hds hn hfit hlen hd (fun H1 locs1 hP1 hD1 hS1 => K H1 locs1 ls (hM.set hi hP1) hS1 hl)
abbrev aI (G : gG) (n : Nat) (f : Nat → Int) : va_E := .inl (G.2.2.1 0, n, .inl (fun j => iI (f j)))
abbrev aZ (G : gG) (n : Nat) (f : Nat → Int) : va_E := .inl (G.2.2.1 1, n, .inl (fun j => iI (f j)))
abbrev aO (G : gG) (n : Nat) (f : Nat → Option Nat) : va_E := .inl (G.2.2.1 2, n, .inr (.inr (.inr (.inr f))))
abbrev aG (G : gG) (n : Nat) (f : Nat → Option Nat) : va_E := .inl (G.2.2.1 3, n, .inr (.inr (.inr (.inr f))))
abbrev ob (ci : Nat) (fs : List Value) : va_E := .inr (ci, fs)
theorem g_iald (hx : GX x l G y cc rm nl ret) (j : Nat) {a : Nat} {lab : gL} {N : Nat} {f : Nat → Int} {i v : Int} (hm : M a = some (lab, aI G N f)) (hi : i = (j : Int)) (hj : j < N) (hN : N ≤ 2147483647) (hv : f j = v) (hd : decode cc pc = .ok (.iaload, 1)) (K : GW x Q M k n (pc + 1) lv (.int (iI v) :: st)) : GW x Q M k n pc lv (.int (iI i) :: .ref a :: st) := by
  obtain ⟨p, l0, e, R, s, m, args, below, meth, c, G0, nL⟩ := x
  obtain ⟨rfl, rfl, rfl, rfl, h1, h2, h3, h4, h5, h6, h7, h8, h9, h10⟩ := hx
  intro H locs ls hM hS hl
  subst hi
  subst hv
  obtain ⟨q, hq⟩ := lst_mem (hM.lt hm) hm
  refine va_iald h1 h2 h9.1 hM.P q 0 hq rfl (iI_in hj hN) hd ?_
  rw [iI_clamp (by omega)]
  exact K H locs ls hM hS hl
theorem g_zald (hx : GX x l G y cc rm nl ret) (j : Nat) {a : Nat} {lab : gL} {N : Nat} {f : Nat → Int} {i v : Int} (hm : M a = some (lab, aZ G N f)) (hi : i = (j : Int)) (hj : j < N) (hN : N ≤ 2147483647) (hv : f j = v) (hd : decode cc pc = .ok (.baload, 1)) (K : GW x Q M k n (pc + 1) lv (.int (iI v) :: st)) : GW x Q M k n pc lv (.int (iI i) :: .ref a :: st) := by
  obtain ⟨p, l0, e, R, s, m, args, below, meth, c, G0, nL⟩ := x
  obtain ⟨rfl, rfl, rfl, rfl, h1, h2, h3, h4, h5, h6, h7, h8, h9, h10⟩ := hx
  intro H locs ls hM hS hl
  subst hi
  subst hv
  obtain ⟨q, hq⟩ := lst_mem (hM.lt hm) hm
  refine va_zald h1 h2 h9.1 hM.P q 1 hq rfl (iI_in hj hN) hd ?_
  rw [iI_clamp (by omega)]
  exact K H locs ls hM hS hl
theorem g_iast (hx : GX x l G y cc rm nl ret) (j : Nat) {a : Nat} {lab : gL} {N : Nat} {f : Nat → Int} {i v : Int} (hm : M a = some (lab, aI G N f)) (hi : i = (j : Int)) (hj : j < N) (hN : N ≤ 2147483647) (hd : decode cc pc = .ok (.iastore, 1)) (K : GW x Q (up M a (lab, aI G N (fu f j v))) k n (pc + 1) lv st) : GW x Q M k n pc lv (.int (iI v) :: .int (iI i) :: .ref a :: st) := by
  obtain ⟨p, l0, e, R, s, m, args, below, meth, c, G0, nL⟩ := x
  obtain ⟨rfl, rfl, rfl, rfl, h1, h2, h3, h4, h5, h6, h7, h8, h9, h10⟩ := hx
  intro H locs ls hM hS hl
  subst hi
  obtain ⟨q, hq⟩ := lst_mem (hM.lt hm) hm
  refine va_iast h1 h2 h9.1 hM.P hM.D hS q 0 hq rfl (iI_in hj hN) hd (fun H1 locs1 hP1 hD1 hS1 => ?_)
  rw [iI_clamp (by omega), fu_iI] at hP1
  exact K H1 locs1 ls (hM.set hq hP1) hS1 hl
theorem g_zast (hx : GX x l G y cc rm nl ret) (j : Nat) {a : Nat} {lab : gL} {N : Nat} {f : Nat → Int} {i v : Int} (hm : M a = some (lab, aZ G N f)) (hi : i = (j : Int)) (hj : j < N) (hN : N ≤ 2147483647) (hv : v = 0 ∨ v = 1) (hd : decode cc pc = .ok (.bastore, 1)) (K : GW x Q (up M a (lab, aZ G N (fu f j v))) k n (pc + 1) lv st) : GW x Q M k n pc lv (.int (iI v) :: .int (iI i) :: .ref a :: st) := by
  obtain ⟨p, l0, e, R, s, m, args, below, meth, c, G0, nL⟩ := x
  obtain ⟨rfl, rfl, rfl, rfl, h1, h2, h3, h4, h5, h6, h7, h8, h9, h10⟩ := hx
  intro H locs ls hM hS hl
  subst hi
  obtain ⟨q, hq⟩ := lst_mem (hM.lt hm) hm
  refine va_zast h1 h2 h9.1 hM.P hM.D hS q 1 hq rfl (iI_in hj hN) hd (fun H1 locs1 hP1 hD1 hS1 => ?_)
  rw [iI_clamp (by omega), vnar_z hv, fu_iI] at hP1
  exact K H1 locs1 ls (hM.set hq hP1) hS1 hl
theorem g_aald (hx : GX x l G y cc rm nl ret) (j : Nat) {a b : Nat} {lab : gL} {N : Nat} {f : Nat → Option Nat} {i : Int} (hm : M a = some (lab, aO G N f)) (hi : i = (j : Int)) (hj : j < N) (hN : N ≤ 2147483647) (hv : f j = some b) (hd : decode cc pc = .ok (.aaload, 1)) (K : GW x Q M k n (pc + 1) lv (.ref b :: st)) : GW x Q M k n pc lv (.int (iI i) :: .ref a :: st) := by
  obtain ⟨p, l0, e, R, s, m, args, below, meth, c, G0, nL⟩ := x
  obtain ⟨rfl, rfl, rfl, rfl, h1, h2, h3, h4, h5, h6, h7, h8, h9, h10⟩ := hx
  intro H locs ls hM hS hl
  subst hi
  obtain ⟨q, hq⟩ := lst_mem (hM.lt hm) hm
  refine va_aldq h1 h2 h9.1 hM.P q 2 hq rfl (iI_in hj hN) hd ?_
  rw [iI_clamp (by omega), hv]
  exact K H locs ls hM hS hl
theorem g_gald (hx : GX x l G y cc rm nl ret) (j : Nat) {a b : Nat} {lab : gL} {N : Nat} {f : Nat → Option Nat} {i : Int} (hm : M a = some (lab, aG G N f)) (hi : i = (j : Int)) (hj : j < N) (hN : N ≤ 2147483647) (hv : f j = some b) (hd : decode cc pc = .ok (.aaload, 1)) (K : GW x Q M k n (pc + 1) lv (.ref b :: st)) : GW x Q M k n pc lv (.int (iI i) :: .ref a :: st) := by
  obtain ⟨p, l0, e, R, s, m, args, below, meth, c, G0, nL⟩ := x
  obtain ⟨rfl, rfl, rfl, rfl, h1, h2, h3, h4, h5, h6, h7, h8, h9, h10⟩ := hx
  intro H locs ls hM hS hl
  subst hi
  have hin := iI_in hj hN
  have hc : H[a]? = some (vp_cell (G0.2.2.1 3) (N, .inr (.inr (.inr (.inr f))))) := (hM a _ hm).1
  refine W.aald (v := .ref b) (ty := .array .int) h1 h2 hc ((h9.1.2 3 _ rfl).1 N (fun j => va_rf (f j))) rfl (fun q => by cases q) (by show ¬ (_ ∨ (arrV _ _ _).slots.size ≤ _); rw [arrV_size]; exact hin) ?_ rfl rfl hd (K H locs ls hM hS hl)
  rw [iI_clamp (by omega)]
  show (arrV _ _ _).slots[_]? = _
  rw [arrV_read _ _ hj, hv]
  rfl
theorem g_aast (hx : GX x l G y cc rm nl ret) (j : Nat) {a b ci N Nb : Nat} {lab labb : gL} {f : Nat → Option Nat} {fs : List Value} {C : String} {T : u_T} {i : Int} (hm : M a = some (lab, aO G N f)) (hb : M b = some (labb, .inr (ci, fs))) (hc : Cl[ci]? = some (C, T, Nb)) (hw : Cond.castable C "java/lang/Object" ∈ lw_tbl) (hi : i = (j : Int)) (hj : j < N) (hN : N ≤ 2147483647) (hd : decode cc pc = .ok (.aastore, 1)) (K : GW x Q (up M a (lab, aO G N (va_up f j (some b)))) k n (pc + 1) lv st) : GW x Q M k n pc lv (.ref b :: .int (iI i) :: .ref a :: st) := by
  obtain ⟨p, l0, e, R, s, m, args, below, meth, c, G0, nL⟩ := x
  obtain ⟨rfl, rfl, rfl, rfl, h1, h2, h3, h4, h5, h6, h7, h8, h9, h10⟩ := hx
  intro H locs ls hM hS hl
  subst hi
  obtain ⟨q, hq⟩ := lst_mem (hM.lt hm) hm
  obtain ⟨q2, hq2⟩ := lst_mem (hM.lt hb) hb
  refine va_astqO (r := (C, T, Nb)) h1 h2 h9.1 hM.P hM.D hS q 2 q2 ci hq rfl (h9.2.1 _ hw rfl) hq2 hc (iI_in hj hN) hd (fun H1 locs1 hP1 hD1 hS1 => ?_)
  rw [iI_clamp (by omega)] at hP1
  exact K H1 locs1 ls (hM.set hq hP1) hS1 hl
theorem g_aastN (hx : GX x l G y cc rm nl ret) (j : Nat) {a N : Nat} {lab : gL} {f : Nat → Option Nat} {i : Int} (hm : M a = some (lab, aO G N f)) (hi : i = (j : Int)) (hj : j < N) (hN : N ≤ 2147483647) (hd : decode cc pc = .ok (.aastore, 1)) (K : GW x Q (up M a (lab, aO G N (va_up f j none))) k n (pc + 1) lv st) : GW x Q M k n pc lv (.null :: .int (iI i) :: .ref a :: st) := by
  obtain ⟨p, l0, e, R, s, m, args, below, meth, c, G0, nL⟩ := x
  obtain ⟨rfl, rfl, rfl, rfl, h1, h2, h3, h4, h5, h6, h7, h8, h9, h10⟩ := hx
  intro H locs ls hM hS hl
  subst hi
  obtain ⟨q, hq⟩ := lst_mem (hM.lt hm) hm
  refine va_astqN h1 h2 h9.1 hM.P hM.D hS q 2 hq rfl (iI_in hj hN) hd (fun H1 locs1 hP1 hD1 hS1 => ?_)
  rw [iI_clamp (by omega)] at hP1
  exact K H1 locs1 ls (hM.set hq hP1) hS1 hl
theorem g_alen (hx : GX x l G y cc rm nl ret) {a N : Nat} {lab : gL} {f : Nat → Option Nat} (hm : M a = some (lab, aO G N f)) (hd : decode cc pc = .ok (.arraylength, 1)) (K : GW x Q M k n (pc + 1) lv (.int (iI (N : Int)) :: st)) : GW x Q M k n pc lv (.ref a :: st) := by
  obtain ⟨p, l0, e, R, s, m, args, below, meth, c, G0, nL⟩ := x
  obtain ⟨rfl, rfl, rfl, rfl, h1, h2, h3, h4, h5, h6, h7, h8, h9, h10⟩ := hx
  intro H locs ls hM hS hl
  obtain ⟨q, hq⟩ := lst_mem (hM.lt hm) hm
  exact va_alen h1 h2 h9.1 hM.P q 2 hq rfl (iI_nat N) hd (K H locs ls hM hS hl)
theorem g_alenD (hx : GX x l G y cc rm nl ret) (hd : decode cc pc = .ok (.arraylength, 1)) (K : GW x Q M k n (pc + 1) lv (.int (iI 0) :: st)) : GW x Q M k n pc lv (.ref G.2.2.2.1 :: st) := by
  obtain ⟨p, l0, e, R, s, m, args, below, meth, c, G0, nL⟩ := x
  obtain ⟨rfl, rfl, rfl, rfl, h1, h2, h3, h4, h5, h6, h7, h8, h9, h10⟩ := hx
  intro H locs ls hM hS hl
  exact va_tlen h1 h2 h9.2.2.2.1 hS (iI_nat 0) hd (K H locs ls hM hS hl)
theorem g_gets (hx : GX x l G y cc rm nl ret) {index : Nat} {ref : String} (hq : Cond.fieldLink y.cls index ref "DEFAULTCAPACITY_EMPTY_ELEMENTDATA" "[Ljava/lang/Object;" ∈ lw_all) (hr : ref = "java/util/ArrayList") (hd : decode cc pc = .ok (.getstatic index, 3)) (K : GW x Q M k n (pc + 3) lv (.ref G.2.2.2.1 :: st)) : GW x Q M k n pc lv st := by
  obtain ⟨p, l0, e, R, s, m, args, below, meth, c, G0, nL⟩ := x
  obtain ⟨rfl, rfl, rfl, rfl, h1, h2, h3, h4, h5, h6, h7, h8, h9, h10⟩ := hx
  intro H locs ls hM hS hl
  subst hr
  exact va_gets h1 h2 h9.2.2.1 hS h4 (h6 _ hq) (fun _ h => h) hd (K H locs ls hM hS hl)
theorem g_new (hx : GX x l G y cc rm nl ret) (lab : gL) {ci N index : Nat} {C : String} {T : u_T} {ty0 : Nat → FieldType} {fs : List Value} (hc : Cl[ci]? = some (C, T, N)) (hin : ∀ w ∈ u_ws C T N, w ∈ lw_all) (hty : ∀ k, k < N → parseFieldDescriptor (T k).2.2.1 = some (ty0 k)) (hq1 : Cond.classLink y.cls index C ∈ lw_all) (hq2 : Cond.instantiable C N ∈ lw_all) (hq3 : Cond.initialized C ∈ lw_all) (hfs : ∀ j, j < N → defaultValue (ty0 j) = vp_V fs j) (hk : k + 1 ≤ rm.cells) (hn : n + N ≤ rm.slots) (hd : decode cc pc = .ok (.new index, 3)) (K : ∀ a, M a = none → G.2.1 ≤ a → GW x Q (up M a (lab, .inr (ci, fs))) (k + 1) (n + N) (pc + 3) lv (.ref a :: st)) : GW x Q M k n pc lv st := by
  obtain ⟨p, l0, e, R, s, m, args, below, meth, c, G0, nL⟩ := x
  obtain ⟨rfl, rfl, rfl, rfl, h1, h2, h3, h4, h5, h6, h7, h8, h9, h10⟩ := hx
  intro H locs ls hM hS hl
  refine va_new h1 h2 h6 hin ty0 hty h4 (h6 _ hq1) (h6 _ hq2) (h6 _ hq3) h9.1 hM.P hM.D hS (fun q hq => Nat.le_trans h10 hq) hc hfs hk hn hd (fun a H1 hP1 hD1 hS1 => ?_)
  obtain ⟨g1, g2, g3⟩ := hM.push (lab := lab) hP1 hD1
  exact K a g2 g3 H1 locs ls g1 hS1 hl
theorem g_newi (hx : GX x l G y cc rm nl ret) (lab : gL) (N : Nat) (hN : N ≤ 100000) (hk : k + 1 ≤ rm.cells) (hn : n + N ≤ rm.slots) (hd : decode cc pc = .ok (.newarray .int, 2)) (K : ∀ a, M a = none → G.2.1 ≤ a → GW x Q (up M a (lab, aI G N (fun _ => 0))) (k + 1) (n + N) (pc + 2) lv (.ref a :: st)) : GW x Q M k n pc lv (.int (iI (N : Int)) :: st) := by
  obtain ⟨p, l0, e, R, s, m, args, below, meth, c, G0, nL⟩ := x
  obtain ⟨rfl, rfl, rfl, rfl, h1, h2, h3, h4, h5, h6, h7, h8, h9, h10⟩ := hx
  intro H locs ls hM hS hl
  refine va_newa (atype := .int) (ty := .int) (a0 := (N, .inl (fun _ => iI 0))) (N' := N) h1 h2 (h6 _ q139) rfl h9.1 hM.P hM.D hS (fun q hq => Nat.le_trans h10 hq) (fun cA => rfl) (by rw [← nI_i]; exact nI_pos (by omega)) (iI_clamp (by omega)) (by simp [componentBytes]; omega) hk hn hd (fun a cA H1 hK1 hP1 hD1 hS1 => ?_)
  have e1 : cA = G0.2.2.1 0 := by
    have a1 := (hK1.2 4 (cA, .int) (by rfl)).2
    have a2 := (h9.1.2 0 _ rfl).2
    exact Option.some.inj ((show s.vm.findClass _ = some cA from a1).symm.trans (show s.vm.findClass _ = some _ from a2))
  subst e1
  obtain ⟨g1, g2, g3⟩ := hM.push (lab := lab) hP1 hD1
  exact K a g2 g3 H1 locs ls g1 hS1 hl
theorem g_newz (hx : GX x l G y cc rm nl ret) (lab : gL) (N : Nat) (hN : N ≤ 100000) (hk : k + 1 ≤ rm.cells) (hn : n + N ≤ rm.slots) (hd : decode cc pc = .ok (.newarray .boolean, 2)) (K : ∀ a, M a = none → G.2.1 ≤ a → GW x Q (up M a (lab, aZ G N (fun _ => 0))) (k + 1) (n + N) (pc + 2) lv (.ref a :: st)) : GW x Q M k n pc lv (.int (iI (N : Int)) :: st) := by
  obtain ⟨p, l0, e, R, s, m, args, below, meth, c, G0, nL⟩ := x
  obtain ⟨rfl, rfl, rfl, rfl, h1, h2, h3, h4, h5, h6, h7, h8, h9, h10⟩ := hx
  intro H locs ls hM hS hl
  refine va_newa (atype := .boolean) (ty := .boolean) (a0 := (N, .inl (fun _ => iI 0))) (N' := N) h1 h2 (h6 _ q140) rfl h9.1 hM.P hM.D hS (fun q hq => Nat.le_trans h10 hq) (fun cA => rfl) (by rw [← nI_i]; exact nI_pos (by omega)) (iI_clamp (by omega)) (by simp [componentBytes]; omega) hk hn hd (fun a cA H1 hK1 hP1 hD1 hS1 => ?_)
  have e1 : cA = G0.2.2.1 1 := by
    have a1 := (hK1.2 4 (cA, .boolean) (by rfl)).2
    have a2 := (h9.1.2 1 _ rfl).2
    exact Option.some.inj ((show s.vm.findClass _ = some cA from a1).symm.trans (show s.vm.findClass _ = some _ from a2))
  subst e1
  obtain ⟨g1, g2, g3⟩ := hM.push (lab := lab) hP1 hD1
  exact K a g2 g3 H1 locs ls g1 hS1 hl
theorem g_newo (hx : GX x l G y cc rm nl ret) (lab : gL) (N : Nat) {index : Nat} (hq : Cond.classLink y.cls index "java/lang/Object" ∈ lw_all) (hN : N ≤ 100000) (hk : k + 1 ≤ rm.cells) (hn : n + N ≤ rm.slots) (hd : decode cc pc = .ok (.anewarray index, 3)) (K : ∀ a, M a = none → G.2.1 ≤ a → GW x Q (up M a (lab, aO G N (fun _ => none))) (k + 1) (n + N) (pc + 3) lv (.ref a :: st)) : GW x Q M k n pc lv (.int (iI (N : Int)) :: st) := by
  obtain ⟨p, l0, e, R, s, m, args, below, meth, c, G0, nL⟩ := x
  obtain ⟨rfl, rfl, rfl, rfl, h1, h2, h3, h4, h5, h6, h7, h8, h9, h10⟩ := hx
  intro H locs ls hM hS hl
  refine va_newq (N' := N) h1 h2 h4 (h6 _ hq) h9.2.2.2.2.2.2.1 h9.1 hM.P hM.D hS (fun q hq => Nat.le_trans h10 hq) (by rw [← nI_i]; exact nI_pos (by omega)) (iI_clamp (by omega)) (by omega) hk hn hd (fun a cA H1 hK1 hP1 hD1 hS1 => ?_)
  have e1 : cA = G0.2.2.1 2 := by
    obtain ⟨_, _, -, -, -, a1⟩ := (hK1.2 4 (cA, .object "java/lang/Object") (by rfl)).2
    obtain ⟨_, _, -, -, -, a2⟩ := (h9.1.2 2 _ rfl).2
    exact Option.some.inj (a1.symm.trans a2)
  subst e1
  obtain ⟨g1, g2, g3⟩ := hM.push (lab := lab) hP1 hD1
  exact K a g2 g3 H1 locs ls g1 hS1 hl
theorem g_cast (hx : GX x l G y cc rm nl ret) {a ci N index : Nat} {lab : gL} {fs : List Value} {C : String} {T : u_T} (hm : M a = some (lab, .inr (ci, fs))) (hc : Cl[ci]? = some (C, T, N)) (hq : Cond.classLink y.cls index C ∈ lw_all) (hd : decode cc pc = .ok (.checkcast index, 3)) (K : GW x Q M k n (pc + 3) lv (.ref a :: st)) : GW x Q M k n pc lv (.ref a :: st) := by
  obtain ⟨p, l0, e, R, s, m, args, below, meth, c, G0, nL⟩ := x
  obtain ⟨rfl, rfl, rfl, rfl, h1, h2, h3, h4, h5, h6, h7, h8, h9, h10⟩ := hx
  intro H locs ls hM hS hl
  obtain ⟨i, hi⟩ := lst_mem (hM.lt hm) hm
  exact va_castS h1 h2 h4 (h6 _ hq) (h9.1.1 ci _ hc).2 (va_recv h9.1 hM.P hc hi) hd (K H locs ls hM hS hl)
theorem g_objInit (hx : GX x l G y cc rm nl ret) {a index : Nat} (hq1 : Cond.methodLink y.cls index Lib.objectInit ∈ lw_all) (hq2 : Cond.instanceMethod Lib.objectInit ∈ lw_all) (hq3 : Cond.code Lib.objectInit ⟨#[0xb1]⟩ 1 none ∈ lw_all) (hr : 1 ≤ rm.frames ∧ 20 ≤ rm.locals) (hcat : (st.map fun v => v.category).sum ≤ 8) (hd : decode cc pc = .ok (.invokespecial index, 3)) (K : GW x Q M k n (pc + 3) lv st) : GW x Q M k n pc lv (.ref a :: st) := by
  obtain ⟨p, l0, e, R, s, m, args, below, meth, c, G0, nL⟩ := x
  obtain ⟨rfl, rfl, rfl, rfl, h1, h2, h3, h4, h5, h6, h7, h8, h9, h10⟩ := hx
  intro H locs ls hM hS hl
  have hlr := lv_room (m := m) (pc := pc) (ls := ls) (rest := .ref a :: st) hcat
  refine W.objInit h1 h2 h4 (h6 _ hq1) (h6 _ hq2) (h6 _ hq3) rfl (by rw [h3]; exact hl.1) rfl hd hr.1 (by have := hr.2; omega) ?_
  exact K H locs ls hM hS hl
theorem g_run {p : Program} {e : Env} {R : Room} {s : State} {m : MethodId} {args : Array Value} {below : List Frame} {meth : Method} {c : Code} {H : Heap} {locs : List Loc} {mc ms : Nat} {ls : Array Slot} {rest st0 : List Value} {a : Array Value} {Post : Option Value → gH → Prop} (hr : va_Run p l e R s m args below meth c H locs k n mc ms (F0 m pc ls st0) rest (gQ G Post a) (gA G)) (hS : va_S (gA G) s.heap H locs)
    (K : ∀ (v : Option Value) (M' : gH) (H1 : Heap) (locs1 : List Loc), Post v M' → HM G M' H1 → va_S (gA G) s.heap H1 locs1 → W p l e R s m args below meth c H1 locs1 (k + mc) (n + ms) Q (F0 m (pc + 3) ls (v.toList ++ rest))) : W p l e R s m args below meth c H locs k n Q (F0 m pc ls st0) := by
  intro T hT X
  obtain ⟨v, st₀, t, T', L, h0, X', hL, e1, e2, ⟨⟨r, M', hv, hp, hb⟩, hz, hk⟩, st⟩ := hr T hT X
  cases hv
  rw [h0] at hz hk
  obtain ⟨t2, a1, b1⟩ := K v M' T'.heap (locs ++ L) hp (by rw [e1]; exact hb.1) ⟨Nat.le_trans hS.1 (by rw [e1]; exact hz), fun q h1 h2 => by rw [e1, hk q (Nat.lt_of_lt_of_le h1 hS.1) h2]; exact hS.2.1 q h1 h2, fun q hq => by
      rcases List.mem_append.mp hq with h | h
      · exact hS.2.2 q h
      · exact hL q h⟩ T' rfl X'
  exact ⟨t2, st t2 a1, b1⟩
theorem g_callV (hx : GX x l G y cc rm nl ret) {y' : MethodName} {c' : ByteArray} {nl' : Nat} {rm' : Room} {As rest : List Value} {Post : Option Value → gH → Prop} {mc ms index na : Nat} {ret' : Option FieldType} {b ci N : Nat} {lab : gL} {fs : List Value} {T : u_T} (hM' : GMet l y' (ws_ y' c' nl' ret') rm' G (.ref b :: As) M Post mc ms) (hb : M b = some (lab, .inr (ci, fs))) (hc : Cl[ci]? = some (y'.cls, T, N)) (hw : GoodIn lw_all (wsV y.cls index y'.cls y' (ws_ y' c' nl' ret'))) (hrc : rm'.cells = mc) (hrs : rm'.slots = ms) (hpd : y'.cls ≠ "java/lang/invoke/MethodHandle" ∧ y'.cls ≠ "java/lang/invoke/VarHandle" ∧ (parseMethodDescriptor y'.desc).map (fun d => d.parameters.length) = some na) (hna : As.length = na) (hR : rm'.frames + 1 ≤ rm.frames ∧ 8 + (nl' + 11) + rm'.locals ≤ rm.locals) (hst : st = As.reverse ++ .ref b :: rest) (hcat : (rest.map fun v => v.category).sum ≤ 8) (hd : decode cc pc = .ok (.invokevirtual index, 3)) (hf : k + mc ≤ rm.cells ∧ n + ms ≤ rm.slots) (K : ∀ v M', Post v M' → GW x Q M' (k + mc) (n + ms) (pc + 3) lv (v.toList ++ rest)) : GW x Q M k n pc lv st := by
  obtain ⟨p, l0, e, R, s, m, args, below, meth, c, G0, nL⟩ := x
  obtain ⟨rfl, rfl, rfl, rfl, h1, h2, h3, h4, h5, h6, h7, h8, h9, h10⟩ := hx
  intro H locs ls hM hS hl
  subst hst
  subst hna
  obtain ⟨i, hi⟩ := lst_mem (hM.lt hb) hb
  exact g_run (va_runV (As := As) (rest := rest) ⟨h1, h2, h3, h4, h6⟩ hM' (cwV As.length h6 hw rfl hrc hrs ⟨rfl, hpd⟩ hR) ⟨fun a U g mk q => ⟨q.1, q.2.calling g mk a⟩, va_recv h9.1 hM.P hc hi, fun U hU hW => ⟨rfl, g_wd (p := p) (e := e) (R := R) hM hS h9 h10 hU hW⟩⟩ rfl rfl hl.1 rfl (lv_room hcat) hd hf) hS (fun v M' H1 locs1 hp hm hs => K v M' hp H1 locs1 ls hm hs hl)
theorem g_callS (hx : GX x l G y cc rm nl ret) {y' : MethodName} {c' : ByteArray} {nl' : Nat} {rm' : Room} {As rest : List Value} {Post : Option Value → gH → Prop} {mc ms index na : Nat} {ret' : Option FieldType} (hM' : GMet l y' (ws_ y' c' nl' ret') rm' G As M Post mc ms) (hw : GoodIn lw_all (va_wsS y.cls index y' (ws_ y' c' nl' ret'))) (hrc : rm'.cells = mc) (hrs : rm'.slots = ms) (hpd : y'.cls ≠ "java/lang/invoke/MethodHandle" ∧ y'.cls ≠ "java/lang/invoke/VarHandle" ∧ (parseMethodDescriptor y'.desc).map (fun d => d.parameters.length) = some na) (hna : As.length = na) (hR : rm'.frames + 1 ≤ rm.frames ∧ 8 + (nl' + 11) + rm'.locals ≤ rm.locals) (hst : st = As.reverse ++ rest) (hcat : (rest.map fun v => v.category).sum ≤ 8) (hd : decode cc pc = .ok (.invokestatic index, 3)) (hf : k + mc ≤ rm.cells ∧ n + ms ≤ rm.slots) (K : ∀ v M', Post v M' → GW x Q M' (k + mc) (n + ms) (pc + 3) lv (v.toList ++ rest)) : GW x Q M k n pc lv st := by
  obtain ⟨p, l0, e, R, s, m, args, below, meth, c, G0, nL⟩ := x
  obtain ⟨rfl, rfl, rfl, rfl, h1, h2, h3, h4, h5, h6, h7, h8, h9, h10⟩ := hx
  intro H locs ls hM hS hl
  subst hst
  subst hna
  exact g_run (va_runS (As := As) (rest := rest) ⟨h1, h2, h3, h4, h6⟩ hM' (va_cwS As.length h6 hw rfl hrc hrs hpd hR) ⟨fun a U g mk q => ⟨q.1, q.2.calling g mk a⟩, fun U hU hW => ⟨rfl, g_wd (p := p) (e := e) (R := R) hM hS h9 h10 hU hW⟩⟩ rfl rfl hl.1 rfl (lv_room hcat) hd hf) hS (fun v M' H1 locs1 hp hm hs => K v M' hp H1 locs1 ls hm hs hl)
theorem g_callI (hx : GX x l G y cc rm nl ret) {y' : MethodName} {c' : ByteArray} {nl' : Nat} {rm' : Room} {As rest : List Value} {Post : Option Value → gH → Prop} {mc ms index na : Nat} {b : Nat} (hM' : GMet l y' (ws_ y' c' nl' none) rm' G (.ref b :: As) M Post mc ms) (hw : GoodIn lw_all (ws_ y' c' nl' none)) (hq1 : Cond.initialized y'.cls ∈ lw_all) (hq2 : Cond.methodLink y.cls index y' ∈ lw_all) (hq3 : Cond.instanceMethod y' ∈ lw_all) (hy1 : y'.name = "<init>") (hrc : rm'.cells = mc) (hrs : rm'.slots = ms) (hpd : y'.cls ≠ "java/lang/invoke/MethodHandle" ∧ y'.cls ≠ "java/lang/invoke/VarHandle" ∧ (parseMethodDescriptor y'.desc).map (fun d => d.parameters.length) = some na) (hna : As.length = na) (hR : rm'.frames + 1 ≤ rm.frames ∧ 8 + (nl' + 11) + rm'.locals ≤ rm.locals) (hst : st = As.reverse ++ .ref b :: rest) (hcat : (rest.map fun v => v.category).sum ≤ 8) (hd : decode cc pc = .ok (.invokespecial index, 3)) (hf : k + mc ≤ rm.cells ∧ n + ms ≤ rm.slots) (K : ∀ v M', Post v M' → GW x Q M' (k + mc) (n + ms) (pc + 3) lv (v.toList ++ rest)) : GW x Q M k n pc lv st := by
  obtain ⟨p, l0, e, R, s, m, args, below, meth, c, G0, nL⟩ := x
  obtain ⟨rfl, rfl, rfl, rfl, h1, h2, h3, h4, h5, h6, h7, h8, h9, h10⟩ := hx
  intro H locs ls hM hS hl
  subst hst
  subst hna
  exact g_run (va_runI (As := As) (rest := rest) ⟨h1, h2, h3, h4, h6⟩ hM' (cwI As.length h6 hw rfl hrc hrs (h6 _ hq1) (h6 _ hq2) (h6 _ hq3) hy1 hpd hR) ⟨fun a U g mk q => ⟨q.1, q.2.calling g mk a⟩, fun U hU hW => ⟨rfl, g_wd (p := p) (e := e) (R := R) hM hS h9 h10 hU hW⟩⟩ rfl rfl hl.1 rfl (lv_room hcat) hd hf) hS (fun v M' H1 locs1 hp hm hs => K v M' hp H1 locs1 ls hm hs hl)
theorem g_callIN (hx : GX x l G y cc rm nl ret) {y' : MethodName} {c' : ByteArray} {nl' : Nat} {rm' : Room} {As rest : List Value} {Post : Option Value → gH → Prop} {mc ms index na : Nat} {b : Nat} {host : String} (hM' : GMet l y' (ws_ y' c' nl' none) rm' G (.ref b :: As) M Post mc ms) (hw : GoodIn lw_all (ws_ y' c' nl' none)) (hq1 : Cond.initialized y'.cls ∈ lw_all) (hq2 : Cond.methodLinkNest y.cls index y' host ∈ lw_tbl) (hq3 : Cond.instanceMethod y' ∈ lw_all) (hy1 : y'.name = "<init>") (hrc : rm'.cells = mc) (hrs : rm'.slots = ms) (hpd : y'.cls ≠ "java/lang/invoke/MethodHandle" ∧ y'.cls ≠ "java/lang/invoke/VarHandle" ∧ (parseMethodDescriptor y'.desc).map (fun d => d.parameters.length) = some na) (hna : As.length = na) (hR : rm'.frames + 1 ≤ rm.frames ∧ 8 + (nl' + 11) + rm'.locals ≤ rm.locals) (hst : st = As.reverse ++ .ref b :: rest) (hcat : (rest.map fun v => v.category).sum ≤ 8) (hd : decode cc pc = .ok (.invokespecial index, 3)) (hf : k + mc ≤ rm.cells ∧ n + ms ≤ rm.slots) (K : ∀ v M', Post v M' → GW x Q M' (k + mc) (n + ms) (pc + 3) lv (v.toList ++ rest)) : GW x Q M k n pc lv st := by
  obtain ⟨p, l0, e, R, s, m, args, below, meth, c, G0, nL⟩ := x
  obtain ⟨rfl, rfl, rfl, rfl, h1, h2, h3, h4, h5, h6, h7, h8, h9, h10⟩ := hx
  intro H locs ls hM hS hl
  subst hst
  subst hna
  exact g_run (va_runIN (As := As) (rest := rest) ⟨h1, h2, h3, h4, h6⟩ hM' ⟨va_cnB As.length h6 hw rfl hrc hrs (h9.2.1 _ hq2 rfl) (h6 _ hq1) hpd hR, hy1, h6 _ hq3⟩ ⟨fun a U g mk q => ⟨q.1, q.2.calling g mk a⟩, fun U hU hW => ⟨rfl, g_wd (p := p) (e := e) (R := R) hM hS h9 h10 hU hW⟩⟩ rfl rfl hl.1 rfl (lv_room hcat) hd hf) hS (fun v M' H1 locs1 hp hm hs => K v M' hp H1 locs1 ls hm hs hl)
theorem g_mmax (hx : GX x l G y cc rm nl ret) {a b : Int} {index : Nat} (ha : -2147483648 ≤ a ∧ a ≤ 2147483647) (hb : -2147483648 ≤ b ∧ b ≤ 2147483647) (hq : Cond.methodLink y.cls index Lib.Math.max.name ∈ lw_all) (hr : 1 ≤ rm.frames ∧ 21 ≤ rm.locals) (hcat : (st.map fun v => v.category).sum ≤ 8) (hf : k ≤ rm.cells ∧ n ≤ rm.slots) (hd : decode cc pc = .ok (.invokestatic index, 3)) (K : GW x Q M k n (pc + 3) lv (.int (iI (max a b)) :: st)) : GW x Q M k n pc lv (.int (iI b) :: .int (iI a) :: st) := by
  obtain ⟨p, l0, e, R, s, m, args, below, meth, c, G0, nL⟩ := x
  obtain ⟨rfl, rfl, rfl, rfl, h1, h2, h3, h4, h5, h6, h7, h8, h9, h10⟩ := hx
  intro H locs ls hM hS hl
  refine va_mmax h1 h2 (h3.trans hl.1.symm) h4 (h6 _ hq) (h6 _ q276) (h6 _ q40) (h6 _ q277) hr.1 (by have := hr.2; omega) hf.1 hf.2 hd ?_
  have e1 : (if iI a < iI b then iI b else iI a) = iI (max a b) := by
    by_cases h : a < b
    · rw [if_pos ((iI_lt ha hb).mpr h)]; congr 1; omega
    · rw [if_neg (fun z => h ((iI_lt ha hb).mp z))]; congr 1; omega
  rw [e1]
  exact K H locs ls hM hS hl
theorem g_mmin (hx : GX x l G y cc rm nl ret) {a b : Int} {index : Nat} (ha : -2147483648 ≤ a ∧ a ≤ 2147483647) (hb : -2147483648 ≤ b ∧ b ≤ 2147483647) (hq : Cond.methodLink y.cls index Lib.Math.min.name ∈ lw_all) (hr : 1 ≤ rm.frames ∧ 21 ≤ rm.locals) (hcat : (st.map fun v => v.category).sum ≤ 8) (hf : k ≤ rm.cells ∧ n ≤ rm.slots) (hd : decode cc pc = .ok (.invokestatic index, 3)) (K : GW x Q M k n (pc + 3) lv (.int (iI (min a b)) :: st)) : GW x Q M k n pc lv (.int (iI b) :: .int (iI a) :: st) := by
  obtain ⟨p, l0, e, R, s, m, args, below, meth, c, G0, nL⟩ := x
  obtain ⟨rfl, rfl, rfl, rfl, h1, h2, h3, h4, h5, h6, h7, h8, h9, h10⟩ := hx
  intro H locs ls hM hS hl
  refine va_mmin h1 h2 (h3.trans hl.1.symm) h4 (h6 _ hq) (h6 _ q302) (h6 _ q40) (h6 _ q303) hr.1 (by have := hr.2; omega) hf.1 hf.2 hd ?_
  have e1 : (if iI b < iI a then iI b else iI a) = iI (min a b) := by
    by_cases h : b < a
    · rw [if_pos ((iI_lt hb ha).mpr h)]; congr 1; omega
    · rw [if_neg (fun z => h ((iI_lt hb ha).mp z))]; congr 1; omega
  rw [e1]
  exact K H locs ls hM hS hl
theorem g_mabs (hx : GX x l G y cc rm nl ret) {a : Int} {index : Nat} (ha : -2147483647 ≤ a ∧ a ≤ 2147483647) (hq : Cond.methodLink y.cls index Lib.Math.abs.name ∈ lw_all) (hr : 1 ≤ rm.frames ∧ 21 ≤ rm.locals) (hcat : (st.map fun v => v.category).sum ≤ 8) (hf : k ≤ rm.cells ∧ n ≤ rm.slots) (hd : decode cc pc = .ok (.invokestatic index, 3)) (K : GW x Q M k n (pc + 3) lv (.int (iI (a.natAbs : Int)) :: st)) : GW x Q M k n pc lv (.int (iI a) :: st) := by
  obtain ⟨p, l0, e, R, s, m, args, below, meth, c, G0, nL⟩ := x
  obtain ⟨rfl, rfl, rfl, rfl, h1, h2, h3, h4, h5, h6, h7, h8, h9, h10⟩ := hx
  intro H locs ls hM hS hl
  refine va_mabs h1 h2 (h3.trans hl.1.symm) h4 (h6 _ hq) (h6 _ q384) (h6 _ q40) (h6 _ q385) hr.1 (by have := hr.2; omega) hf.1 hf.2 hd ?_
  have e1 : (if 0 ≤ iI a then iI a else 0 - iI a) = iI (a.natAbs : Int) := by
    rw [← iI_0]
    by_cases h : 0 ≤ a
    · rw [if_pos ((iI_le (a := 0) (by decide) (by omega)).mpr h)]; congr 1; omega
    · rw [if_neg (fun z => h ((iI_le (a := 0) (by decide) (by omega)).mp z)), iI_sub]; congr 1; omega
  rw [e1]
  exact K H locs ls hM hS hl
end GR
