/-! LISTS: the methods that change them -/
set_option maxRecDepth 100000
abbrev al0 : va_E := .inr (4, [.int (iI 0), .null, .int (iI 0)])
theorem k_J0_init (l : Launch) (G : gG) (M : gH) (L : Nat) (lab : gL) : GMet l yJ0_init (ws_ yJ0_init cJ0_init 1 none) ({ frames := 1, cells := 0, slots := 0, locals := 20 } : Room) G [.ref L] M (fun v M' => v = none ∧ M' = M) 0 0 := by
  refine g_start (by decide) (Nat.le_of_ble_eq_true rfl) (fun x hx => ?_)
  refine g_aload_n hx 0 dJ0_init_0 rfl rfl ?_
  refine g_objInit hx q64 q51 q52 ⟨Nat.le_of_ble_eq_true rfl, Nat.le_of_ble_eq_true rfl⟩ (Nat.le_of_ble_eq_true rfl) dJ0_init_1 ?_
  exact g_vret hx (Nat.zero_le _) (Nat.zero_le _) dJ0_init_4 ⟨rfl, rfl⟩
theorem k_J1_init (l : Launch) (G : gG) (M : gH) (L : Nat) (lab : gL) (hL : M L = some (lab, al0)) : GMet l yJ1_init (ws_ yJ1_init cJ1_init 1 none) ({ frames := 2, cells := 0, slots := 0, locals := 40 } : Room) G [.ref L] M (fun v M' => v = none ∧ M' = M) 0 0 := by
  refine g_start (by decide) (Nat.le_of_ble_eq_true rfl) (fun x hx => ?_)
  refine g_aload_n hx 0 dJ1_init_0 rfl rfl ?_
  refine g_callI (rest := []) (na := 0) hx (k_J0_init l G M L lab) (lw_meth q63) q32 q61 q62 rfl rfl rfl (by decide +kernel) rfl ⟨Nat.le_of_ble_eq_true rfl, Nat.le_of_ble_eq_true rfl⟩ rfl (Nat.le_of_ble_eq_true rfl) dJ1_init_1 ⟨Nat.le_refl _, Nat.le_refl _⟩ (fun v_1 M_2 h_3 => ?_)
  obtain ⟨rfl, h2⟩ := h_3; have h2 := h2.symm; subst h2
  refine g_aload_n hx 0 dJ1_init_4 rfl rfl ?_
  refine g_iconst hx dJ1_init_5 ?_
  refine pq69 (fs' := [.int (iI 0), .null, .int (iI 0)]) hx rfl dJ1_init_6 hL (Nat.le_of_ble_eq_true rfl) rfl ?_
  refine g_M (M' := M) ?_ ?_
  · funext q; by_cases h : q = L
    · subst h; rw [up_s, hL]
    · rw [up_n h]
  exact g_vret hx (Nat.zero_le _) (Nat.zero_le _) dJ1_init_9 ⟨rfl, rfl⟩
theorem k_J2_init (l : Launch) (G : gG) (M : gH) (L : Nat) (lab : gL) (hL : M L = some (lab, al0)) : GMet l yJ2_init (ws_ yJ2_init cJ2_init 1 none) ({ frames := 3, cells := 0, slots := 0, locals := 60 } : Room) G [.ref L] M (fun v M' => v = none ∧ M' = up M L (lab, alc 0 G.2.2.2.1 0)) 0 0 := by
  refine g_start (by decide) (Nat.le_of_ble_eq_true rfl) (fun x hx => ?_)
  refine g_aload_n hx 0 dJ2_init_0 rfl rfl ?_
  refine g_callI (rest := []) (na := 0) hx (k_J1_init l G M L lab hL) (lw_meth q60) q33 q58 q59 rfl rfl rfl (by decide +kernel) rfl ⟨Nat.le_of_ble_eq_true rfl, Nat.le_of_ble_eq_true rfl⟩ rfl (Nat.le_of_ble_eq_true rfl) dJ2_init_1 ⟨Nat.le_refl _, Nat.le_refl _⟩ (fun v_1 M_2 h_3 => ?_)
  obtain ⟨rfl, h2⟩ := h_3; have h2 := h2.symm; subst h2
  refine g_aload_n hx 0 dJ2_init_4 rfl rfl ?_
  refine g_gets hx q65 rfl dJ2_init_5 ?_
  refine pq67 (fs' := [.int (iI 0), .ref G.2.2.2.1, .int (iI 0)]) hx rfl dJ2_init_8 hL (Nat.le_of_ble_eq_true rfl) rfl ?_
  exact g_vret hx (Nat.zero_le _) (Nat.zero_le _) dJ2_init_11 ⟨rfl, rfl⟩
theorem k_copyOf2 (l : Launch) (G : gG) (M : gH) (E : Nat) (labE labN : gL) (cap N : Nat) (r : Nat → Option Nat) (hE : M E = some (labE, aO G cap r)) (hN : cap ≤ N ∧ N ≤ 1000) (hob : ∀ j, j < cap → ∀ z, r j = some z → OBJ M z) : GMet l yJ7_copyOf_2 (ws_ yJ7_copyOf_2 cJ7_copyOf_2 4 (some (.array (.object "java/lang/Object")))) ({ frames := 1, cells := 1, slots := N, locals := 40 } : Room) G [.ref E, .int (iI (N : Int)), .ref G.2.2.2.2] M (fun v M' => ∃ a, v = some (.ref a) ∧ M a = none ∧ G.2.1 ≤ a ∧ M' = up M a (labN, aO G N (va_cpy r (fun _ => none) 0 0 cap))) 1 N := by
  refine g_start (by decide) (Nat.le_of_ble_eq_true rfl) (fun x hx => ?_)
  refine g_aload_n hx 2 dJ7_copyOf_2_0 rfl rfl ?_
  refine g_ldcM hx q298 dJ7_copyOf_2_1 ?_
  refine g_acmp_ne hx 13 dJ7_copyOf_2_3 (by decide) (fun c_3 => ?_) (fun c_3 => ?_)
  · exact absurd rfl c_3
  ·
    refine g_iload_n hx 1 dJ7_copyOf_2_6 rfl rfl ?_
    refine g_newo hx labN N q300 (by omega) (Nat.le_refl _) (by show 0 + N ≤ N; omega) dJ7_copyOf_2_7 (fun a ha hb => ?_)
    obtain ⟨M_1, e_2⟩ : ∃ M1 : gH, M1 = up M a (labN, aO G N (fun _ => none)) := ⟨_, rfl⟩
    refine g_M e_2.symm ?_
    have ha1 : M_1 a = some (labN, aO G N (fun _ => none)) := by rw [e_2]; exact up_s
    have hE1 : M_1 E = some (labE, aO G cap r) := by rw [e_2]; exact up_f ha hE
    refine g_goto hx 24 dJ7_copyOf_2_10 (by decide) ?_
    refine g_astore_n (lv' := [(3, .ref a), (0, .ref E), (1, .int (iI (N : Int))), (2, .ref G.2.2.2.2)]) hx dJ7_copyOf_2_24 rfl (by decide) rfl ?_
    refine g_aload_n hx 1 dJ7_copyOf_2_25 rfl rfl ?_
    refine g_iconst hx dJ7_copyOf_2_26 ?_
    refine g_aload_n hx 0 dJ7_copyOf_2_27 rfl rfl ?_
    refine g_iconst hx dJ7_copyOf_2_28 ?_
    refine g_aload_n hx 1 dJ7_copyOf_2_29 rfl rfl ?_
    refine g_alen hx hE1 dJ7_copyOf_2_30 ?_
    refine g_iload_n hx 2 dJ7_copyOf_2_31 rfl rfl ?_
    refine g_mmin hx (by omega) (by omega) q301 ⟨Nat.le_of_ble_eq_true rfl, Nat.le_of_ble_eq_true rfl⟩ (Nat.le_of_ble_eq_true rfl) ⟨Nat.le_refl _, by show 0 + N ≤ N; omega⟩ dJ7_copyOf_2_32 ?_
    refine g_st (st' := [.int (iI (cap : Int)), .int (iI ((0 : Nat) : Int)), .ref a, .int (iI ((0 : Nat) : Int)), .ref E]) (by rw [show min (cap : Int) (N : Int) = (cap : Int) by omega]; rfl) ?_
    refine g_copy hx 0 0 cap hE1 ha1 q304 (by omega) (by omega) (by omega) (by omega) (fun i hi z hz => ?_) ⟨Nat.le_of_ble_eq_true rfl, Nat.le_of_ble_eq_true rfl⟩ (Nat.le_of_ble_eq_true rfl) dJ7_copyOf_2_35 ?_
    · obtain ⟨lb, ci, fs, g1, g2⟩ := hob (0 + i) (by omega) z hz
      exact ⟨lb, ci, fs, by rw [e_2]; exact up_f ha g1, g2⟩
    refine g_aload_n hx 0 dJ7_copyOf_2_38 rfl rfl ?_
    exact g_aret hx (Or.inr ⟨_, rfl⟩) (Or.inr ⟨_, rfl⟩) (Nat.le_refl _) (by show 0 + N ≤ N; omega) dJ7_copyOf_2_39 ⟨a, rfl, ha, hb, by rw [e_2]; funext z; by_cases h : z = a <;> simp [up, h]⟩
theorem k_copyOf (l : Launch) (G : gG) (M : gH) (E : Nat) (labE labN : gL) (cap N : Nat) (r : Nat → Option Nat) (hE : M E = some (labE, aO G cap r)) (hN : cap ≤ N ∧ N ≤ 1000) (hob : ∀ j, j < cap → ∀ z, r j = some z → OBJ M z) : GMet l yJ7_copyOf (ws_ yJ7_copyOf cJ7_copyOf 2 (some (.array (.object "java/lang/Object")))) ({ frames := 2, cells := 1, slots := N, locals := 63 } : Room) G [.ref E, .int (iI (N : Int))] M (fun v M' => ∃ a, v = some (.ref a) ∧ M a = none ∧ G.2.1 ≤ a ∧ M' = up M a (labN, aO G N (va_cpy r (fun _ => none) 0 0 cap))) 1 N := by
  refine g_start (by decide) (Nat.le_of_ble_eq_true rfl) (fun x hx => ?_)
  refine g_aload_n hx 0 dJ7_copyOf_0 rfl rfl ?_
  refine g_iload_n hx 1 dJ7_copyOf_1 rfl rfl ?_
  refine g_aload_n hx 0 dJ7_copyOf_2 rfl rfl ?_
  refine g_getC hx hE q285 ⟨Nat.le_of_ble_eq_true rfl, Nat.le_of_ble_eq_true rfl⟩ (Nat.le_of_ble_eq_true rfl) dJ7_copyOf_3 ?_
  refine g_callS (rest := []) (na := 3) hx (k_copyOf2 l G M E labE labN cap N r hE hN hob) (lw_S q295 q296 q41 q297) rfl rfl (by decide +kernel) rfl ⟨Nat.le_of_ble_eq_true rfl, Nat.le_of_ble_eq_true rfl⟩ rfl (Nat.le_of_ble_eq_true rfl) dJ7_copyOf_6 ⟨Nat.le_refl _, by show 0 + N ≤ N; omega⟩ (fun v_1 M_2 h_3 => ?_)
  obtain ⟨a, rfl, ha, hb, rfl⟩ := h_3
  exact g_aret hx (Or.inr ⟨_, rfl⟩) (Or.inr ⟨_, rfl⟩) (Nat.le_refl _) (by show 0 + N ≤ N; omega) dJ7_copyOf_9 ⟨a, rfl, ha, hb, rfl⟩
/-- where a list's elements lie, when it is full -/
def FUL (G : gG) (M : gH) (E : Nat) (labE : gL) (n : Nat) (r : Nat → Option Nat) : Prop := (E = G.2.2.2.1 ∧ n = 0) ∨ (M E = some (labE, aO G n r) ∧ 0 < n)
def GRW (G : gG) (M : gH) (L : Nat) (lab labE : gL) (mod : Int) (n : Nat) (r : Nat → Option Nat) : Option Value → gH → Prop := fun v M' => ∃ (a N : Nat) (r' : Nat → Option Nat), v = some (.ref a) ∧ M a = none ∧ n < N ∧ N ≤ 100 ∧ (∀ j, j < n → r' j = r j) ∧ M' = up (up M a (labE, aO G N r')) L (lab, alc mod a n)
theorem k_grow2A (l : Launch) (G : gG) (M : gH) (L : Nat) (lab : gL) (mod : Int) (E n : Nat) (hL : M L = some (lab, alc mod E n)) (labE : gL) (r : Nat → Option Nat) (hn : 0 < n ∧ n ≤ 64) (hE : M E = some (labE, aO G n r)) (hob : ∀ j, j < n → ∀ z, r j = some z → OBJ M z) : GMet l yJ2_grow_2 (ws_ yJ2_grow_2 cJ2_grow_2 4 (some (.array (.object "java/lang/Object")))) ({ frames := 3, cells := 1, slots := 100, locals := 84 } : Room) G [.ref L, .int (iI ((n : Int) + 1))] M (GRW G M L lab labE mod n r) 1 100 := by
  refine g_start (by decide) (Nat.le_of_ble_eq_true rfl) (fun x hx => ?_)
  refine g_aload_n hx 0 dJ2_grow_2_0 rfl rfl ?_
  refine gq67 (v := .ref E) hx rfl dJ2_grow_2_1 hL rfl ?_
  refine g_alen hx hE dJ2_grow_2_4 ?_
  refine g_istore_n (lv' := [(2, .int (iI (n : Int))), (0, .ref L), (1, .int (iI ((n : Int) + 1)))]) hx dJ2_grow_2_5 rfl (by decide) rfl ?_
  refine g_iload_n hx 0 dJ2_grow_2_6 rfl rfl ?_
  refine g_if_gt hx 20 (by omega) dJ2_grow_2_7 (by decide) (fun c_7 => ?_) (fun c_7 => ?_)
  ·
    refine g_iload_n hx 0 dJ2_grow_2_20 rfl rfl ?_
    refine g_iload_n hx 2 dJ2_grow_2_21 rfl rfl ?_
    refine g_iload_n hx 0 dJ2_grow_2_22 rfl rfl ?_
    refine g_isub hx dJ2_grow_2_23 ?_
    refine g_iload_n hx 0 dJ2_grow_2_24 rfl rfl ?_
    refine g_iconst hx dJ2_grow_2_25 ?_
    refine g_st (st' := .int (iI ((1 : Nat) : Int)) :: [.int (iI (n : Int)), .int (iI (((n : Int) + 1) - (n : Int))), .int (iI (n : Int))]) rfl ?_
    refine g_ishr (s0 := 1) hx dJ2_grow_2_26 (by omega) (by omega) ?_
    refine g_pcallS (rest := []) (na := 3) hx (k_newLength l G M (n : Int) (((n : Int) + 1) - (n : Int)) ((n : Int) / ((2 ^ 1 : Nat) : Int)) (by omega) (by omega) (by omega)) (lw_S q272 q273 q39 q274) rfl rfl (by decide +kernel) rfl ⟨Nat.le_of_ble_eq_true rfl, Nat.le_of_ble_eq_true rfl⟩ rfl (Nat.le_of_ble_eq_true rfl) dJ2_grow_2_27 ⟨Nat.zero_le _, Nat.zero_le _⟩ ?_
    obtain ⟨N, hN⟩ : ∃ N : Nat, (N : Int) = (n : Int) + max (((n : Int) + 1) - (n : Int)) ((n : Int) / ((2 ^ 1 : Nat) : Int)) := ⟨(((n : Int) + max (((n : Int) + 1) - (n : Int)) ((n : Int) / ((2 ^ 1 : Nat) : Int)))).toNat, by omega⟩
    refine g_top hN.symm ?_
    refine g_istore_n (lv' := [(3, .int (iI (N : Int))), (2, .int (iI (n : Int))), (0, .ref L), (1, .int (iI ((n : Int) + 1)))]) hx dJ2_grow_2_30 rfl (by decide) rfl ?_
    refine g_aload_n hx 2 dJ2_grow_2_31 rfl rfl ?_
    refine g_aload_n hx 2 dJ2_grow_2_32 rfl rfl ?_
    refine gq67 (v := .ref E) hx rfl dJ2_grow_2_33 hL rfl ?_
    refine g_iload_n hx 0 dJ2_grow_2_36 rfl rfl ?_
    refine g_callS (rest := [.ref L]) (na := 2) hx (k_copyOf l G M E labE labE n N r hE (by omega) hob) (lw_S q282 q283 q41 q284) rfl rfl (by decide +kernel) rfl ⟨Nat.le_of_ble_eq_true rfl, Nat.le_of_ble_eq_true rfl⟩ rfl (Nat.le_of_ble_eq_true rfl) dJ2_grow_2_37 ⟨Nat.le_of_ble_eq_true rfl, by show 0 + N ≤ 100; omega⟩ (fun v_1 M_2 h_3 => ?_)
    obtain ⟨a, rfl, ha, hb, rfl⟩ := h_3
    have hL1 : up M a (labE, aO G N (va_cpy r (fun _ => none) 0 0 n)) L = some (lab, alc mod E n) := up_f ha hL
    refine g_dup_x1 hx dJ2_grow_2_40 rfl rfl ?_
    refine pq67 (fs' := [.int (iI mod), .ref a, .int (iI (n : Int))]) hx rfl dJ2_grow_2_41 hL1 (Nat.le_of_ble_eq_true rfl) rfl ?_
    exact g_aret hx (Or.inr ⟨_, rfl⟩) (Or.inr ⟨_, rfl⟩) (Nat.le_of_ble_eq_true rfl) (by show 0 + N ≤ 100; omega) dJ2_grow_2_44 ⟨a, N, _, rfl, ha, by omega, by omega, fun j hj => by rw [pk_cpy_in (by omega) (by omega)]; simp, rfl⟩
  · exact absurd c_7 (by omega)
theorem k_grow2B (l : Launch) (G : gG) (M : gH) (L : Nat) (lab : gL) (mod : Int) (n : Nat) (hn0 : n = 0) (hL : M L = some (lab, alc mod G.2.2.2.1 n)) (labE : gL) (r : Nat → Option Nat) : GMet l yJ2_grow_2 (ws_ yJ2_grow_2 cJ2_grow_2 4 (some (.array (.object "java/lang/Object")))) ({ frames := 3, cells := 1, slots := 100, locals := 84 } : Room) G [.ref L, .int (iI ((n : Int) + 1))] M (GRW G M L lab labE mod n r) 1 100 := by
  refine g_start (by decide) (Nat.le_of_ble_eq_true rfl) (fun x hx => ?_)
  refine g_aload_n hx 0 dJ2_grow_2_0 rfl rfl ?_
  refine gq67 (v := .ref G.2.2.2.1) hx rfl dJ2_grow_2_1 hL rfl ?_
  refine g_alenD hx dJ2_grow_2_4 ?_
  refine g_istore_n (lv' := [(2, .int (iI 0)), (0, .ref L), (1, .int (iI ((n : Int) + 1)))]) hx dJ2_grow_2_5 rfl (by decide) rfl ?_
  refine g_iload_n hx 0 dJ2_grow_2_6 rfl rfl ?_
  refine g_if_gt hx 20 (by omega) dJ2_grow_2_7 (by decide) (fun c_7 => ?_) (fun c_7 => ?_)
  · exact absurd c_7 (by omega)
  ·
    refine g_aload_n hx 1 dJ2_grow_2_10 rfl rfl ?_
    refine gq67 (v := .ref G.2.2.2.1) hx rfl dJ2_grow_2_11 hL rfl ?_
    refine g_gets hx q65 rfl dJ2_grow_2_14 ?_
    refine g_acmp_eq hx 45 dJ2_grow_2_17 (by decide) (fun c_17 => ?_) (fun c_17 => ?_)
    ·
      refine g_aload_n hx 1 dJ2_grow_2_45 rfl rfl ?_
      refine g_bipush hx dJ2_grow_2_46 (by decide) ?_
      refine g_iload_n hx 2 dJ2_grow_2_48 rfl rfl ?_
      refine g_mmax hx (by omega) (by omega) q307 ⟨Nat.le_of_ble_eq_true rfl, Nat.le_of_ble_eq_true rfl⟩ (Nat.le_of_ble_eq_true rfl) ⟨Nat.zero_le _, Nat.zero_le _⟩ dJ2_grow_2_49 ?_
      refine g_top (b := ((10 : Nat) : Int)) (by omega) ?_
      refine g_newo hx labE 10 q308 (by decide) (Nat.le_of_ble_eq_true rfl) (Nat.le_of_ble_eq_true rfl) dJ2_grow_2_52 (fun a ha hb => ?_)
      have hL1 : up M a (labE, aO G 10 (fun _ => none)) L = some (lab, alc mod G.2.2.2.1 n) := up_f ha hL
      refine g_dup_x1 hx dJ2_grow_2_55 rfl rfl ?_
      refine pq67 (fs' := [.int (iI mod), .ref a, .int (iI (n : Int))]) hx rfl dJ2_grow_2_56 hL1 (Nat.le_of_ble_eq_true rfl) rfl ?_
      exact g_aret hx (Or.inr ⟨_, rfl⟩) (Or.inr ⟨_, rfl⟩) (Nat.le_of_ble_eq_true rfl) (Nat.le_of_ble_eq_true rfl) dJ2_grow_2_59 ⟨a, 10, _, rfl, ha, by omega, by omega, fun j hj => absurd hj (by omega), rfl⟩
    · exact absurd rfl c_17
theorem k_grow2 (l : Launch) (G : gG) (M : gH) (L : Nat) (lab : gL) (mod : Int) (E n : Nat) (hL : M L = some (lab, alc mod E n)) (labE : gL) (r : Nat → Option Nat) (hn : n ≤ 64) (hF : FUL G M E labE n r) (hob : ∀ j, j < n → ∀ z, r j = some z → OBJ M z) : GMet l yJ2_grow_2 (ws_ yJ2_grow_2 cJ2_grow_2 4 (some (.array (.object "java/lang/Object")))) ({ frames := 3, cells := 1, slots := 100, locals := 84 } : Room) G [.ref L, .int (iI ((n : Int) + 1))] M (GRW G M L lab labE mod n r) 1 100 := by
  rcases hF with ⟨rfl, h0⟩ | ⟨hE, h0⟩
  · exact k_grow2B l G M L lab mod n h0 hL labE r
  · exact k_grow2A l G M L lab mod E n hL labE r ⟨h0, hn⟩ hE hob
theorem k_grow (l : Launch) (G : gG) (M : gH) (L : Nat) (lab : gL) (mod : Int) (E n : Nat) (hL : M L = some (lab, alc mod E n)) (labE : gL) (r : Nat → Option Nat) (hn : n ≤ 64) (hF : FUL G M E labE n r) (hob : ∀ j, j < n → ∀ z, r j = some z → OBJ M z) : GMet l yJ2_grow (ws_ yJ2_grow cJ2_grow 1 (some (.array (.object "java/lang/Object")))) ({ frames := 4, cells := 1, slots := 100, locals := 107 } : Room) G [.ref L] M (GRW G M L lab labE mod n r) 1 100 := by
  refine g_start (by decide) (Nat.le_of_ble_eq_true rfl) (fun x hx => ?_)
  refine g_aload_n hx 0 dJ2_grow_0 rfl rfl ?_
  refine g_aload_n hx 0 dJ2_grow_1 rfl rfl ?_
  refine gq68 (v := .int (iI (n : Int))) hx rfl dJ2_grow_2 hL rfl ?_
  refine g_iconst hx dJ2_grow_5 ?_
  refine g_iadd hx dJ2_grow_6 ?_
  refine g_callV (rest := []) (na := 1) hx (k_grow2 l G M L lab mod E n hL labE r hn hF hob) hL rfl (lw_V q268 q270 qs4 q34 q271) rfl rfl (by decide +kernel) rfl ⟨Nat.le_of_ble_eq_true rfl, Nat.le_of_ble_eq_true rfl⟩ rfl (Nat.le_of_ble_eq_true rfl) dJ2_grow_7 ⟨Nat.le_of_ble_eq_true rfl, Nat.le_of_ble_eq_true rfl⟩ (fun v_1 M_2 h_3 => ?_)
  obtain ⟨a, N, r', rfl, ha, hN1, hN2, hr, rfl⟩ := h_3
  exact g_aret hx (Or.inr ⟨_, rfl⟩) (Or.inr ⟨_, rfl⟩) (Nat.le_of_ble_eq_true rfl) (Nat.le_of_ble_eq_true rfl) dJ2_grow_10 ⟨a, N, r', rfl, ha, hN1, hN2, hr, rfl⟩
