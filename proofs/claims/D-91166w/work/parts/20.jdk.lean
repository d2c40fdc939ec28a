/-! THE JDK's METHODS -/
set_option maxRecDepth 100000
theorem pI_ok {M : gH} {r r' : Int} (h : r' = r) : pI M r (some (.int (iI r'))) M := by rw [h]; exact ⟨rfl, rfl⟩
theorem pR_ok {M : gH} {r : Nat} : pR M r (some (.ref r)) M := ⟨rfl, rfl⟩
/-- cells whose label isn't P stay -/
def Fr (P : gL → Prop) (M M' : gH) : Prop := ∀ (a : Nat) (q : gC), M a = some q → ¬ P q.1 → M' a = some q
theorem Fr.rf {P : gL → Prop} {M : gH} : Fr P M M := fun _ _ h _ => h
theorem Fr.tr {P : gL → Prop} {M M1 M2 : gH} (h1 : Fr P M M1) (h2 : Fr P M1 M2) : Fr P M M2 := fun a q h n => h2 a q (h1 a q h n) n
theorem Fr.mono {P P' : gL → Prop} {M M1 : gH} (h : Fr P M M1) (hp : ∀ z, P z → P' z) : Fr P' M M1 := fun a q hq n => h a q hq (fun z => n (hp _ z))
theorem Fr.ofUp {P : gL → Prop} {M : gH} {a : Nat} {q0 q1 : gC} (h : M a = some q0) (hp : P q0.1) : Fr P M (up M a q1) := by
  intro b q hq n
  by_cases e : b = a
  · subst e
    rw [h] at hq
    cases hq
    exact absurd hp n
  · rw [up_n e]; exact hq
theorem Fr.new {P : gL → Prop} {M : gH} {a : Nat} {q1 : gC} (h : M a = none) : Fr P M (up M a q1) := fun b q hq _ => up_f h hq
/-- an object that may lie in a list -/
def OBJ (M : gH) (a : Nat) : Prop := ∃ (lab : gL) (ci : Nat) (fs : List Value), M a = some (lab, .inr (ci, fs)) ∧ 1 ≤ ci ∧ ci ≤ 3
theorem cast_ok {ci : Nat} (h1 : 1 ≤ ci) (h3 : ci ≤ 3) : ∃ (C : String) (T : u_T) (N : Nat), Cl[ci]? = some (C, T, N) ∧ Cond.castable C "java/lang/Object" ∈ lw_tbl := by
  have h : ci = 1 ∨ ci = 2 ∨ ci = 3 := by omega
  rcases h with rfl | rfl | rfl
  · exact ⟨RX2, TX2, 12, rfl, q727⟩
  · exact ⟨RX4, TX4, 3, rfl, q729⟩
  · exact ⟨RX3, TX3, 2, rfl, q728⟩
section GJ
variable {x : gX} {l : Launch} {G : gG} {y : MethodName} {cc : ByteArray} {rm : Room} {nl : Nat} {ret : Option FieldType} {Q : State → Prop} {M : gH} {k n pc : Nat} {lv : List (Nat × Value)} {st : List Value}
theorem g_aastO (hx : GX x l G y cc rm nl ret) (j : Nat) {a b N : Nat} {lab : gL} {f : Nat → Option Nat} {i : Int} (hm : M a = some (lab, aO G N f)) (hb : OBJ M b) (hi : i = (j : Int)) (hj : j < N) (hN : N ≤ 2147483647) (hd : decode cc pc = .ok (.aastore, 1)) (K : GW x Q (up M a (lab, aO G N (va_up f j (some b)))) k n (pc + 1) lv st) : GW x Q M k n pc lv (.ref b :: .int (iI i) :: .ref a :: st) := by
  obtain ⟨lb, ci, fs, h1, h2, h3⟩ := hb
  obtain ⟨C, T, Nb, h4, h5⟩ := cast_ok h2 h3
  exact g_aast hx j hm h1 h4 h5 hi hj hN hd K
theorem g_copy (hx : GX x l G y cc rm nl ret) (sp dp m : Nat) {a0 a n0 n1 index : Nat} {lab0 lab : gL} {f g : Nat → Option Nat} (hm0 : M a0 = some (lab0, aO G n0 f)) (hm : M a = some (lab, aO G n1 g)) (hq : Cond.methodLink y.cls index arraycopyName ∈ lw_all) (h01 : sp + m ≤ n0) (h11 : dp + m ≤ n1) (hn0 : n0 ≤ 100000) (hn1 : n1 ≤ 100000) (hel : ∀ i, i < m → ∀ z, f (sp + i) = some z → OBJ M z) (hr : 1 ≤ rm.frames ∧ 40 ≤ rm.locals) (hcat : (st.map fun v => v.category).sum ≤ 8) (hd : decode cc pc = .ok (.invokestatic index, 3)) (K : GW x Q (up M a (lab, aO G n1 (va_cpy f g sp dp m))) k n (pc + 3) lv st) : GW x Q M k n pc lv (.int (iI (m : Int)) :: .int (iI (dp : Int)) :: .ref a :: .int (iI (sp : Int)) :: .ref a0 :: st) := by
  obtain ⟨p, l0, e, R, s, m', args, below, meth, c, G0, nL⟩ := x
  obtain ⟨rfl, rfl, rfl, rfl, h1, h2, h3, h4, h5, h6, h7, h8, h9, h10⟩ := hx
  intro H locs ls hM hS hl
  obtain ⟨i0, hi0⟩ := lst_mem (hM.lt hm0) hm0
  obtain ⟨i1, hi1⟩ := lst_mem (hM.lt hm) hm
  have hp : ∀ z : Nat, z ≤ 100000 → ¬ iI (z : Int) < 0 := fun z hz => by rw [← nI_i]; exact nI_pos (by omega)
  refine va_copyM h1 h2 (h3.trans hl.1.symm) h4 (h6 _ hq) (h6 _ q306) (h6 _ q305) (h6 _ q42) h9.1 hM.P hM.D hS i0 i1 2 2 hi0 hi1 rfl rfl (hp sp (by omega)) (hp dp (by omega)) (hp m (by omega)) (by rw [iI_clamp (by omega), iI_clamp (by omega)]; exact h01) (by rw [iI_clamp (by omega), iI_clamp (by omega)]; exact h11) ?_ hr.1 ?_ hd (fun H1 locs1 hP1 hD1 hS1 => ?_)
  · rw [iI_clamp (by omega), iI_clamp (by omega)]
    intro i hi z hz
    obtain ⟨lb, ci, fs, g1, g2, g3⟩ := hel i hi z hz
    obtain ⟨C, T, Nb, g4, g5⟩ := cast_ok g2 g3
    obtain ⟨j, hj⟩ := lst_mem (hM.lt g1) g1
    refine va_rAny h9.1 hM.P hj g4 (fun comp c0 f1 f2 => ?_)
    obtain ⟨c1, t1, e1, e2, e3⟩ := Cond.castable_spec (va_Nw.use (A := args) rfl (h9.2.1 _ g5 rfl))
    cases e1.symm.trans f2
    cases e2.symm.trans f1
    exact e3
  · have hw : nativeFrameWords "java/lang/System" "arraycopy" 5 ≤ 21 := by decide
    have := hr.2
    omega
  · rw [iI_clamp (by omega), iI_clamp (by omega), iI_clamp (by omega)] at hP1
    exact K H1 locs1 ls (hM.set hi1 hP1) hS1 hl
theorem g_getC (hx : GX x l G y cc rm nl ret) {a N index : Nat} {lab : gL} {f : Nat → Option Nat} (hm : M a = some (lab, aO G N f)) (hq : Cond.methodLink y.cls index ⟨"java/lang/Object", "getClass", "()Ljava/lang/Class;"⟩ ∈ lw_all) (hr : 1 ≤ rm.frames ∧ 22 ≤ rm.locals) (hcat : (st.map fun v => v.category).sum ≤ 8) (hd : decode cc pc = .ok (.invokevirtual index, 3)) (K : GW x Q M k n (pc + 3) lv (.ref G.2.2.2.2 :: st)) : GW x Q M k n pc lv (.ref a :: st) := by
  obtain ⟨p, l0, e, R, s, m', args, below, meth, c, G0, nL⟩ := x
  obtain ⟨rfl, rfl, rfl, rfl, h1, h2, h3, h4, h5, h6, h7, h8, h9, h10⟩ := hx
  intro H locs ls hM hS hl
  have hc : H[a]? = some (vp_cell (G0.2.2.1 2) (N, .inr (.inr (.inr (.inr f))))) := (hM a _ hm).1
  exact va_getC h1 h2 (h3.trans hl.1.symm) h4 (h6 _ hq) (h9.2.2.2.2.2.1.use) (h6 _ q731) (h6 _ q286) (h6 _ q294) h9.2.2.2.2.1 ⟨_, hc, rfl, va_nmO (h9.1.2 2 _ rfl).2 (by decide)⟩ hr.1 (by have := hr.2; omega) hd (K H locs ls hM hS hl)
theorem g_ldcM (hx : GX x l G y cc rm nl ret) {index : Nat} (hq : Cond.classLink y.cls index "[Ljava/lang/Object;" ∈ lw_all) (hd : decode cc pc = .ok (.ldc index, 2)) (K : GW x Q M k n (pc + 2) lv (.ref G.2.2.2.2 :: st)) : GW x Q M k n pc lv st := by
  obtain ⟨p, l0, e, R, s, m', args, below, meth, c, G0, nL⟩ := x
  obtain ⟨rfl, rfl, rfl, rfl, h1, h2, h3, h4, h5, h6, h7, h8, h9, h10⟩ := hx
  intro H locs ls hM hS hl
  exact va_ldcM h1 h2 h4 (h6 _ hq) h9.2.2.2.2.1 hd (K H locs ls hM hS hl)
end GJ
theorem k_chk4 (l : Launch) (G : gG) (M : gH) (a b : Int) (ha : 0 ≤ a ∧ a < b) (hb : b ≤ 2147483647) : GMet l yJ4_checkIndex (ws_ yJ4_checkIndex cJ4_checkIndex 3 (some .int)) ({ frames := 0, cells := 0, slots := 0, locals := 0 } : Room) G [.int (iI a), .int (iI b), .null] M (pI M a) 0 0 := by
  refine g_start (by decide) (Nat.le_of_ble_eq_true rfl) (fun x hx => ?_)
  refine g_iload_n hx 0 dJ4_checkIndex_0 rfl rfl ?_
  refine g_if_lt hx 9 (by omega) dJ4_checkIndex_1 (by decide) (fun c_1 => ?_) (fun c_1 => ?_)
  · exact absurd c_1 (by omega)
  ·
    refine g_iload_n hx 0 dJ4_checkIndex_4 rfl rfl ?_
    refine g_iload_n hx 1 dJ4_checkIndex_5 rfl rfl ?_
    refine g_icmp_lt hx 16 (by omega) (by omega) dJ4_checkIndex_6 (by decide) (fun c_6 => ?_) (fun c_6 => ?_)
    ·
      refine g_iload_n hx 0 dJ4_checkIndex_16 rfl rfl ?_
      exact g_iret hx (Nat.zero_le _) (Nat.zero_le _) dJ4_checkIndex_17 (pI_ok rfl)
    · exact absurd ha.2 c_6
theorem k_chk3 (l : Launch) (G : gG) (M : gH) (a b : Int) (ha : 0 ≤ a ∧ a < b) (hb : b ≤ 2147483647) : GMet l yJ3_checkIndex (ws_ yJ3_checkIndex cJ3_checkIndex 2 (some .int)) ({ frames := 1, cells := 0, slots := 0, locals := 22 } : Room) G [.int (iI a), .int (iI b)] M (pI M a) 0 0 := by
  refine g_start (by decide) (Nat.le_of_ble_eq_true rfl) (fun x hx => ?_)
  refine g_iload_n hx 0 dJ3_checkIndex_0 rfl rfl ?_
  refine g_iload_n hx 1 dJ3_checkIndex_1 rfl rfl ?_
  refine g_null hx dJ3_checkIndex_2 ?_
  refine g_pcallS (rest := []) (na := 3) hx (k_chk4 l G M a b (by omega) (by omega)) (lw_S q171 q172 q37 q173) rfl rfl (by decide +kernel) rfl ⟨Nat.le_of_ble_eq_true rfl, Nat.le_of_ble_eq_true rfl⟩ rfl (Nat.le_of_ble_eq_true rfl) dJ3_checkIndex_3 ⟨Nat.zero_le _, Nat.zero_le _⟩ ?_
  exact g_iret hx (Nat.zero_le _) (Nat.zero_le _) dJ3_checkIndex_6 (pI_ok rfl)
theorem k_newLength (l : Launch) (G : gG) (M : gH) (a b c : Int) (ha : 0 < a ∧ a ≤ 100000) (hb : 0 < b ∧ b ≤ 100000) (hc : 0 ≤ c ∧ c ≤ 100000) : GMet l yJ5_newLength (ws_ yJ5_newLength cJ5_newLength 4 (some .int)) ({ frames := 1, cells := 0, slots := 0, locals := 21 } : Room) G [.int (iI a), .int (iI b), .int (iI c)] M (pI M (a + max b c)) 0 0 := by
  refine g_start (by decide) (Nat.le_of_ble_eq_true rfl) (fun x hx => ?_)
  refine g_iload_n hx 0 dJ5_newLength_0 rfl rfl ?_
  refine g_iload_n hx 1 dJ5_newLength_1 rfl rfl ?_
  refine g_iload_n hx 2 dJ5_newLength_2 rfl rfl ?_
  refine g_mmax hx (by omega) (by omega) q275 ⟨Nat.le_of_ble_eq_true rfl, Nat.le_of_ble_eq_true rfl⟩ (Nat.le_of_ble_eq_true rfl) ⟨Nat.zero_le _, Nat.zero_le _⟩ dJ5_newLength_3 ?_
  refine g_iadd hx dJ5_newLength_6 ?_
  refine g_istore_n (lv' := [(3, .int (iI (a + (max b c)))), (0, .int (iI a)), (1, .int (iI b)), (2, .int (iI c))]) hx dJ5_newLength_7 rfl (by decide) rfl ?_
  refine g_iconst hx dJ5_newLength_8 ?_
  refine g_iload_n hx 0 dJ5_newLength_9 rfl rfl ?_
  refine g_icmp_ge hx 21 (by omega) (by omega) dJ5_newLength_10 (by decide) (fun c_10 => ?_) (fun c_10 => ?_)
  · exact absurd c_10 (by omega)
  ·
    refine g_iload_n hx 0 dJ5_newLength_13 rfl rfl ?_
    refine g_ldc (z := 2147483639) hx dJ5_newLength_14 q278 ?_
    refine g_icmp_gt hx 21 (by omega) (by omega) dJ5_newLength_16 (by decide) (fun c_16 => ?_) (fun c_16 => ?_)
    · exact absurd c_16 (by omega)
    ·
      refine g_iload_n hx 0 dJ5_newLength_19 rfl rfl ?_
      exact g_iret hx (Nat.zero_le _) (Nat.zero_le _) dJ5_newLength_20 (pI_ok rfl)
/-- a list's own cell -/
abbrev alc (mod : Int) (E : Nat) (n : Nat) : va_E := .inr (4, [.int (iI mod), .ref E, .int (iI (n : Int))])
/-- a list of n elements f: its cell labelled lab, its array labelled labE, or ArrayList's empty one -/
def AL (G : gG) (M : gH) (L : Nat) (lab labE : gL) (n : Nat) (f : Nat → Nat) : Prop := ∃ (mod : Int) (E : Nat), M L = some (lab, alc mod E n) ∧ ((E = G.2.2.2.1 ∧ n = 0) ∨ ∃ (cap : Nat) (r : Nat → Option Nat), M E = some (labE, aO G cap r) ∧ n ≤ cap ∧ 0 < cap ∧ cap ≤ 1000 ∧ ∀ j, j < n → r j = some (f j))
theorem k_size0 (l : Launch) (G : gG) (M : gH) (L : Nat) (lab : gL) (mod : Int) (E n : Nat) (hL : M L = some (lab, alc mod E n)) : GMet l yJ2_size (ws_ yJ2_size cJ2_size 1 (some .int)) ({ frames := 0, cells := 0, slots := 0, locals := 0 } : Room) G [.ref L] M (pI M (n : Int)) 0 0 := by
  refine g_start (by decide) (Nat.le_of_ble_eq_true rfl) (fun x hx => ?_)
  refine g_aload_n hx 0 dJ2_size_0 rfl rfl ?_
  refine gq68 (v := .int (iI (n : Int))) hx rfl dJ2_size_1 hL rfl ?_
  exact g_iret hx (Nat.zero_le _) (Nat.zero_le _) dJ2_size_4 (pI_ok rfl)
theorem k_size (l : Launch) (G : gG) (M : gH) (L : Nat) (lab labE : gL) (n : Nat) (f : Nat → Nat) (hA : AL G M L lab labE n f) : GMet l yJ2_size (ws_ yJ2_size cJ2_size 1 (some .int)) ({ frames := 0, cells := 0, slots := 0, locals := 0 } : Room) G [.ref L] M (pI M (n : Int)) 0 0 := by
  obtain ⟨mod, E, hL, -⟩ := hA
  exact k_size0 l G M L lab mod E n hL
theorem k_elementData (l : Launch) (G : gG) (M : gH) (L : Nat) (lab : gL) (mod : Int) (E n : Nat) (hL : M L = some (lab, alc mod E n)) (cap : Nat) (r : Nat → Option Nat) (labE : gL) (hE : M E = some (labE, aO G cap r)) (j b : Nat) (hj : j < cap) (hc : cap ≤ 1000) (hb : r j = some b) : GMet l yJ2_elementData (ws_ yJ2_elementData cJ2_elementData 2 (some (.object "java/lang/Object"))) ({ frames := 0, cells := 0, slots := 0, locals := 0 } : Room) G [.ref L, .int (iI (j : Int))] M (pR M b) 0 0 := by
  refine g_start (by decide) (Nat.le_of_ble_eq_true rfl) (fun x hx => ?_)
  refine g_aload_n hx 0 dJ2_elementData_0 rfl rfl ?_
  refine gq67 (v := .ref E) hx rfl dJ2_elementData_1 hL rfl ?_
  refine g_iload_n hx 1 dJ2_elementData_4 rfl rfl ?_
  refine g_aald hx j (b := b) hE rfl (by omega) (by omega) hb dJ2_elementData_5 ?_
  exact g_aret hx (Or.inl ⟨_, rfl⟩) (Or.inr ⟨_, rfl⟩) (Nat.zero_le _) (Nat.zero_le _) dJ2_elementData_6 pR_ok
theorem k_get0 (l : Launch) (G : gG) (M : gH) (L : Nat) (lab : gL) (mod : Int) (E n : Nat) (hL : M L = some (lab, alc mod E n)) (cap : Nat) (r : Nat → Option Nat) (labE : gL) (hE : M E = some (labE, aO G cap r)) (j b : Nat) (hj : j < n) (hn : n ≤ cap) (hc : cap ≤ 1000) (hb : r j = some b) : GMet l yJ2_get (ws_ yJ2_get cJ2_get 2 (some (.object "java/lang/Object"))) ({ frames := 2, cells := 0, slots := 0, locals := 43 } : Room) G [.ref L, .int (iI (j : Int))] M (pR M b) 0 0 := by
  refine g_start (by decide) (Nat.le_of_ble_eq_true rfl) (fun x hx => ?_)
  refine g_iload_n hx 1 dJ2_get_0 rfl rfl ?_
  refine g_aload_n hx 0 dJ2_get_1 rfl rfl ?_
  refine gq68 (v := .int (iI (n : Int))) hx rfl dJ2_get_2 hL rfl ?_
  refine g_pcallS (rest := []) (na := 2) hx (k_chk3 l G M (j : Int) (n : Int) (by omega) (by omega)) (lw_S q168 q169 q36 q170) rfl rfl (by decide +kernel) rfl ⟨Nat.le_of_ble_eq_true rfl, Nat.le_of_ble_eq_true rfl⟩ rfl (Nat.le_of_ble_eq_true rfl) dJ2_get_5 ⟨Nat.zero_le _, Nat.zero_le _⟩ ?_
  refine g_pop hx dJ2_get_8 rfl ?_
  refine g_aload_n hx 0 dJ2_get_9 rfl rfl ?_
  refine g_iload_n hx 1 dJ2_get_10 rfl rfl ?_
  refine g_pcallV (rest := []) (na := 1) hx (k_elementData l G M L lab mod E n hL cap r labE hE j b (by omega) hc hb) hL rfl (lw_V q174 q175 q176 q34 q177) rfl rfl (by decide +kernel) rfl ⟨Nat.le_of_ble_eq_true rfl, Nat.le_of_ble_eq_true rfl⟩ rfl (Nat.le_of_ble_eq_true rfl) dJ2_get_11 ⟨Nat.zero_le _, Nat.zero_le _⟩ ?_
  exact g_aret hx (Or.inl ⟨_, rfl⟩) (Or.inr ⟨_, rfl⟩) (Nat.zero_le _) (Nat.zero_le _) dJ2_get_14 pR_ok
theorem k_get (l : Launch) (G : gG) (M : gH) (L : Nat) (lab labE : gL) (n : Nat) (f : Nat → Nat) (hA : AL G M L lab labE n f) (j : Nat) (hj : j < n) : GMet l yJ2_get (ws_ yJ2_get cJ2_get 2 (some (.object "java/lang/Object"))) ({ frames := 2, cells := 0, slots := 0, locals := 43 } : Room) G [.ref L, .int (iI (j : Int))] M (pR M (f j)) 0 0 := by
  obtain ⟨mod, E, hL, ⟨-, h0⟩ | ⟨cap, r, hE, h1, h2, h3, h4⟩⟩ := hA
  · omega
  · exact k_get0 l G M L lab mod E n hL cap r labE hE j (f j) hj h1 h3 (h4 j hj)
