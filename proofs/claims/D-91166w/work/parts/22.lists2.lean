/-! LISTS: add, set, clear -/
set_option maxRecDepth 100000
theorem up_d {M : gH} {a b : Nat} {q q1 q2 : gC} (h1 : M a = some q1) (h2 : M b = some q2) (h : q2.2 ≠ q1.2) : up M a q b = some q2 := by
  rw [up_n, h2]
  intro e
  subst e
  rw [h1] at h2
  cases h2
  exact h rfl
theorem up_e {M : gH} {a : Nat} {q : gC} (h : M a = some q) : up M a q = M := by
  funext z
  by_cases e : z = a
  · subst e; rw [up_s, h]
  · rw [up_n e]
theorem OBJ.fr {P : gL → Prop} {M M' : gH} {a : Nat} (h : OBJ M a) (hf : ∀ q, M a = some q → M' a = some q) : OBJ M' a := by
  obtain ⟨lb, ci, fs, h1, h2⟩ := h
  exact ⟨lb, ci, fs, hf _ h1, h2⟩
theorem OBJ.upA {G : gG} {M : gH} {a E N : Nat} {lab : gL} {r : Nat → Option Nat} {q : gC} (h : OBJ M a) (hE : M E = some (lab, aO G N r)) : OBJ (up M E q) a := by
  obtain ⟨lb, ci, fs, h1, h2⟩ := h
  exact ⟨lb, ci, fs, up_d hE h1 (fun h => by cases h), h2⟩
theorem OBJ.upL {M : gH} {a L : Nat} {lab : gL} {mod : Int} {E n : Nat} {q : gC} (h : OBJ M a) (hL : M L = some (lab, alc mod E n)) : OBJ (up M L q) a := by
  obtain ⟨lb, ci, fs, h1, h2, h3⟩ := h
  exact ⟨lb, ci, fs, up_d hL h1 (fun h => by cases h; omega), h2, h3⟩
theorem OBJ.upF {M : gH} {a b : Nat} {q : gC} (h : OBJ M a) (hb : M b = none) : OBJ (up M b q) a := by
  obtain ⟨lb, ci, fs, h1, h2⟩ := h
  exact ⟨lb, ci, fs, up_f hb h1, h2⟩
theorem al_fin {G : gG} {M : gH} {L : Nat} {lab labE : gL} {mod : Int} {a N n : Nat} {r : Nat → Option Nat} {f : Nat → Nat} {e : Nat} (h1 : M L = some (lab, alc mod a (n + 1))) (h2 : M a = some (labE, aO G N (va_up r n (some e)))) (hN : n < N ∧ N ≤ 1000) (hr : ∀ j, j < n → r j = some (f j)) : AL G M L lab labE (n + 1) (fun j => if j = n then e else f j) := by
  refine ⟨mod, a, h1, Or.inr ⟨N, _, h2, by omega, by omega, hN.2, fun j hj => ?_⟩⟩
  by_cases h : j = n
  · subst h; simp [va_up]
  · simp only [va_up, if_neg h]
    exact hr j (by omega)
/-- what a list's array is -/
def ARR (G : gG) (M : gH) (E : Nat) (labE : gL) (n : Nat) (f : Nat → Nat) : Prop := (E = G.2.2.2.1 ∧ n = 0) ∨ ∃ (cap : Nat) (r : Nat → Option Nat), M E = some (labE, aO G cap r) ∧ n ≤ cap ∧ 0 < cap ∧ cap ≤ 1000 ∧ ∀ j, j < n → r j = some (f j)
def ADD (G : gG) (M : gH) (L : Nat) (lab labE : gL) (n : Nat) (f : Nat → Nat) (e : Nat) (v0 : Option Value) : Option Value → gH → Prop := fun v M' => v = v0 ∧ AL G M' L lab labE (n + 1) (fun j => if j = n then e else f j) ∧ Fr (fun z => z = lab ∨ z = labE) M M'

theorem k_add2A (l : Launch) (G : gG) (M : gH) (L : Nat) (lab : gL) (mod : Int) (E n : Nat) (hL : M L = some (lab, alc mod E n)) (labE : gL) (f : Nat → Nat) (e : Nat) (hn : n ≤ 64) (he : OBJ M e) (cap : Nat) (r : Nat → Option Nat) (hE : M E = some (labE, aO G cap r)) (hc : n < cap ∧ cap ≤ 1000) (hr : ∀ j, j < n → r j = some (f j)) : GMet l yJ2_add_2 (ws_ yJ2_add_2 cJ2_add_2 4 none) ({ frames := 5, cells := 1, slots := 100, locals := 127 } : Room) G [.ref L, .ref e, .ref E, .int (iI (n : Int))] M (ADD G M L lab labE n f e none) 1 100 := by
  refine g_start (by decide) (Nat.le_of_ble_eq_true rfl) (fun x hx => ?_)
  refine g_iload_n hx 3 dJ2_add_2_0 rfl rfl ?_
  refine g_aload_n hx 2 dJ2_add_2_1 rfl rfl ?_
  refine g_alen hx hE dJ2_add_2_2 ?_
  refine g_icmp_ne hx 11 (by omega) (by omega) dJ2_add_2_3 (by decide) (fun c_3 => ?_) (fun c_3 => ?_)
  ·
    refine g_aload_n hx 2 dJ2_add_2_11 rfl rfl ?_
    refine g_iload_n hx 3 dJ2_add_2_12 rfl rfl ?_
    refine g_aload_n hx 1 dJ2_add_2_13 rfl rfl ?_
    refine g_aastO hx n hE he rfl (by omega) (by omega) dJ2_add_2_14 ?_
    obtain ⟨M1, e1⟩ : ∃ M1 : gH, M1 = up M E (labE, aO G cap (va_up r n (some e))) := ⟨_, rfl⟩
    refine g_M e1.symm ?_
    have hL1 : M1 L = some (lab, alc mod E n) := by rw [e1]; exact up_d hE hL (fun h => by cases h)
    have hE1 : M1 E = some (labE, aO G cap (va_up r n (some e))) := by rw [e1]; exact up_s
    refine g_aload_n hx 0 dJ2_add_2_15 rfl rfl ?_
    refine g_iload_n hx 3 dJ2_add_2_16 rfl rfl ?_
    refine g_iconst hx dJ2_add_2_17 ?_
    refine g_iadd hx dJ2_add_2_18 ?_
    refine g_top (b := ((n + 1 : Nat) : Int)) (by omega) ?_
    refine pq68 (fs' := [.int (iI mod), .ref E, .int (iI ((n + 1 : Nat) : Int))]) hx rfl dJ2_add_2_19 hL1 (Nat.le_of_ble_eq_true rfl) rfl ?_
    exact g_vret hx (Nat.zero_le _) (Nat.zero_le _) dJ2_add_2_22 ⟨rfl, al_fin up_s (up_d hL1 hE1 (fun h => by cases h)) (by omega) hr, by rw [e1]; exact (Fr.ofUp hE (Or.inr rfl)).tr (Fr.ofUp (by rw [← e1]; exact hL1) (Or.inl rfl))⟩
  · exact absurd c_3 (by omega)
theorem k_add2B (l : Launch) (G : gG) (M : gH) (L : Nat) (lab : gL) (mod : Int) (E n : Nat) (hL : M L = some (lab, alc mod E n)) (labE : gL) (f : Nat → Nat) (e : Nat) (hn : n ≤ 64) (he : OBJ M e) (hn0 : 0 < n) (r : Nat → Option Nat) (hE : M E = some (labE, aO G n r)) (hr : ∀ j, j < n → r j = some (f j)) (hob : ∀ j, j < n → ∀ z, r j = some z → OBJ M z) : GMet l yJ2_add_2 (ws_ yJ2_add_2 cJ2_add_2 4 none) ({ frames := 5, cells := 1, slots := 100, locals := 127 } : Room) G [.ref L, .ref e, .ref E, .int (iI (n : Int))] M (ADD G M L lab labE n f e none) 1 100 := by
  refine g_start (by decide) (Nat.le_of_ble_eq_true rfl) (fun x hx => ?_)
  refine g_iload_n hx 3 dJ2_add_2_0 rfl rfl ?_
  refine g_aload_n hx 2 dJ2_add_2_1 rfl rfl ?_
  refine g_alen hx hE dJ2_add_2_2 ?_
  refine g_icmp_ne hx 11 (by omega) (by omega) dJ2_add_2_3 (by decide) (fun c_3 => ?_) (fun c_3 => ?_)
  · exact absurd rfl c_3
  ·
    refine g_aload_n hx 0 dJ2_add_2_6 rfl rfl ?_
    refine g_callV (rest := []) (na := 0) hx (k_grow l G M L lab mod E n hL labE r hn (Or.inr ⟨hE, hn0⟩) hob) hL rfl (lw_V q264 q266 qs3 q34 q267) rfl rfl (by decide +kernel) rfl ⟨Nat.le_of_ble_eq_true rfl, Nat.le_of_ble_eq_true rfl⟩ rfl (Nat.le_of_ble_eq_true rfl) dJ2_add_2_7 ⟨Nat.le_of_ble_eq_true rfl, Nat.le_of_ble_eq_true rfl⟩ (fun v_1 M_2 h_3 => ?_)
    obtain ⟨a, N, r', rfl, ha, hN1, hN2, hr1, rfl⟩ := h_3
    have hne : a ≠ L := fun h => by subst h; rw [ha] at hL; cases hL
    obtain ⟨M1, e1⟩ : ∃ M1 : gH, M1 = up (up M a (labE, aO G N r')) L (lab, alc mod a n) := ⟨_, rfl⟩
    refine g_M e1.symm ?_
    have hE1 : M1 a = some (labE, aO G N r') := by rw [e1, up_n hne]; exact up_s
    have hL1 : M1 L = some (lab, alc mod a n) := by rw [e1]; exact up_s
    have hL0 : up M a (labE, aO G N r') L = some (lab, alc mod E n) := up_f ha hL
    have he1 : OBJ M1 e := by rw [e1]; exact (he.upF ha).upL hL0
    have hf1 : Fr (fun z => z = lab ∨ z = labE) M M1 := by rw [e1]; exact (Fr.new ha).tr (Fr.ofUp hL0 (Or.inl rfl))
    refine g_astore_n (lv' := [(2, .ref a), (0, .ref L), (1, .ref e), (3, .int (iI (n : Int)))]) hx dJ2_add_2_10 rfl (by decide) rfl ?_
    refine g_aload_n hx 0 dJ2_add_2_11 rfl rfl ?_
    refine g_iload_n hx 3 dJ2_add_2_12 rfl rfl ?_
    refine g_aload_n hx 2 dJ2_add_2_13 rfl rfl ?_
    refine g_aastO hx n hE1 he1 rfl (by omega) (by omega) dJ2_add_2_14 ?_
    obtain ⟨M2, e2⟩ : ∃ M2 : gH, M2 = up M1 a (labE, aO G N (va_up r' n (some e))) := ⟨_, rfl⟩
    refine g_M e2.symm ?_
    have hL2 : M2 L = some (lab, alc mod a n) := by rw [e2]; exact up_d hE1 hL1 (fun h => by cases h)
    have hE2 : M2 a = some (labE, aO G N (va_up r' n (some e))) := by rw [e2]; exact up_s
    have hf2 : Fr (fun z => z = lab ∨ z = labE) M M2 := by rw [e2]; exact hf1.tr (Fr.ofUp hE1 (Or.inr rfl))
    refine g_aload_n hx 1 dJ2_add_2_15 rfl rfl ?_
    refine g_iload_n hx 3 dJ2_add_2_16 rfl rfl ?_
    refine g_iconst hx dJ2_add_2_17 ?_
    refine g_iadd hx dJ2_add_2_18 ?_
    refine g_top (b := ((n + 1 : Nat) : Int)) (by omega) ?_
    refine pq68 (fs' := [.int (iI mod), .ref a, .int (iI ((n + 1 : Nat) : Int))]) hx rfl dJ2_add_2_19 hL2 (Nat.le_of_ble_eq_true rfl) rfl ?_
    exact g_vret hx (Nat.le_of_ble_eq_true rfl) (Nat.le_of_ble_eq_true rfl) dJ2_add_2_22 ⟨rfl, al_fin up_s (up_d hL2 hE2 (fun h => by cases h)) (by omega) (fun j hj => (hr1 j hj).trans (hr j hj)), hf2.tr (Fr.ofUp hL2 (Or.inl rfl))⟩
theorem k_add2C (l : Launch) (G : gG) (M : gH) (L : Nat) (lab : gL) (mod : Int) (n : Nat) (hL : M L = some (lab, alc mod G.2.2.2.1 n)) (labE : gL) (f : Nat → Nat) (e : Nat) (hn : n ≤ 64) (he : OBJ M e) (hn0 : n = 0) (r : Nat → Option Nat) (hr : ∀ j, j < n → r j = some (f j)) (hob : ∀ j, j < n → ∀ z, r j = some z → OBJ M z) : GMet l yJ2_add_2 (ws_ yJ2_add_2 cJ2_add_2 4 none) ({ frames := 5, cells := 1, slots := 100, locals := 127 } : Room) G [.ref L, .ref e, .ref G.2.2.2.1, .int (iI (n : Int))] M (ADD G M L lab labE n f e none) 1 100 := by
  refine g_start (by decide) (Nat.le_of_ble_eq_true rfl) (fun x hx => ?_)
  refine g_iload_n hx 3 dJ2_add_2_0 rfl rfl ?_
  refine g_aload_n hx 2 dJ2_add_2_1 rfl rfl ?_
  refine g_alenD hx dJ2_add_2_2 ?_
  refine g_icmp_ne hx 11 (by omega) (by omega) dJ2_add_2_3 (by decide) (fun c_3 => ?_) (fun c_3 => ?_)
  · exact absurd (by omega) c_3
  ·
    refine g_aload_n hx 0 dJ2_add_2_6 rfl rfl ?_
    refine g_callV (rest := []) (na := 0) hx (k_grow l G M L lab mod G.2.2.2.1 n hL labE r hn (Or.inl ⟨rfl, hn0⟩) hob) hL rfl (lw_V q264 q266 qs3 q34 q267) rfl rfl (by decide +kernel) rfl ⟨Nat.le_of_ble_eq_true rfl, Nat.le_of_ble_eq_true rfl⟩ rfl (Nat.le_of_ble_eq_true rfl) dJ2_add_2_7 ⟨Nat.le_of_ble_eq_true rfl, Nat.le_of_ble_eq_true rfl⟩ (fun v_1 M_2 h_3 => ?_)
    obtain ⟨a, N, r', rfl, ha, hN1, hN2, hr1, rfl⟩ := h_3
    have hne : a ≠ L := fun h => by subst h; rw [ha] at hL; cases hL
    obtain ⟨M1, e1⟩ : ∃ M1 : gH, M1 = up (up M a (labE, aO G N r')) L (lab, alc mod a n) := ⟨_, rfl⟩
    refine g_M e1.symm ?_
    have hE1 : M1 a = some (labE, aO G N r') := by rw [e1, up_n hne]; exact up_s
    have hL1 : M1 L = some (lab, alc mod a n) := by rw [e1]; exact up_s
    have hL0 : up M a (labE, aO G N r') L = some (lab, alc mod G.2.2.2.1 n) := up_f ha hL
    have he1 : OBJ M1 e := by rw [e1]; exact (he.upF ha).upL hL0
    have hf1 : Fr (fun z => z = lab ∨ z = labE) M M1 := by rw [e1]; exact (Fr.new ha).tr (Fr.ofUp hL0 (Or.inl rfl))
    refine g_astore_n (lv' := [(2, .ref a), (0, .ref L), (1, .ref e), (3, .int (iI (n : Int)))]) hx dJ2_add_2_10 rfl (by decide) rfl ?_
    refine g_aload_n hx 0 dJ2_add_2_11 rfl rfl ?_
    refine g_iload_n hx 3 dJ2_add_2_12 rfl rfl ?_
    refine g_aload_n hx 2 dJ2_add_2_13 rfl rfl ?_
    refine g_aastO hx n hE1 he1 rfl (by omega) (by omega) dJ2_add_2_14 ?_
    obtain ⟨M2, e2⟩ : ∃ M2 : gH, M2 = up M1 a (labE, aO G N (va_up r' n (some e))) := ⟨_, rfl⟩
    refine g_M e2.symm ?_
    have hL2 : M2 L = some (lab, alc mod a n) := by rw [e2]; exact up_d hE1 hL1 (fun h => by cases h)
    have hE2 : M2 a = some (labE, aO G N (va_up r' n (some e))) := by rw [e2]; exact up_s
    have hf2 : Fr (fun z => z = lab ∨ z = labE) M M2 := by rw [e2]; exact hf1.tr (Fr.ofUp hE1 (Or.inr rfl))
    refine g_aload_n hx 1 dJ2_add_2_15 rfl rfl ?_
    refine g_iload_n hx 3 dJ2_add_2_16 rfl rfl ?_
    refine g_iconst hx dJ2_add_2_17 ?_
    refine g_iadd hx dJ2_add_2_18 ?_
    refine g_top (b := ((n + 1 : Nat) : Int)) (by omega) ?_
    refine pq68 (fs' := [.int (iI mod), .ref a, .int (iI ((n + 1 : Nat) : Int))]) hx rfl dJ2_add_2_19 hL2 (Nat.le_of_ble_eq_true rfl) rfl ?_
    exact g_vret hx (Nat.le_of_ble_eq_true rfl) (Nat.le_of_ble_eq_true rfl) dJ2_add_2_22 ⟨rfl, al_fin up_s (up_d hL2 hE2 (fun h => by cases h)) (by omega) (fun j hj => (hr1 j hj).trans (hr j hj)), hf2.tr (Fr.ofUp hL2 (Or.inl rfl))⟩
theorem k_add2 (l : Launch) (G : gG) (M : gH) (L : Nat) (lab : gL) (mod : Int) (E n : Nat) (hL : M L = some (lab, alc mod E n)) (labE : gL) (f : Nat → Nat) (e : Nat) (hn : n ≤ 64) (he : OBJ M e) (hA : ARR G M E labE n f) (hob : ∀ j, j < n → OBJ M (f j)) : GMet l yJ2_add_2 (ws_ yJ2_add_2 cJ2_add_2 4 none) ({ frames := 5, cells := 1, slots := 100, locals := 127 } : Room) G [.ref L, .ref e, .ref E, .int (iI (n : Int))] M (ADD G M L lab labE n f e none) 1 100 := by
  rcases hA with ⟨rfl, h0⟩ | ⟨cap, r, hE, h1, h2, h3, h4⟩
  · exact k_add2C l G M L lab mod n hL labE f e hn he h0 (fun _ => none) (fun j hj => by omega) (fun j hj => by omega)
  · by_cases hc : n = cap
    · subst hc
      exact k_add2B l G M L lab mod E n hL labE f e hn he h2 r hE h4 (fun j hj z hz => by rw [h4 j hj] at hz; cases hz; exact hob j hj)
    · exact k_add2A l G M L lab mod E n hL labE f e hn he cap r hE (by omega) h4
theorem k_add0 (l : Launch) (G : gG) (M : gH) (L : Nat) (lab : gL) (mod : Int) (E n : Nat) (hL : M L = some (lab, alc mod E n)) (labE : gL) (f : Nat → Nat) (e : Nat) (hn : n ≤ 64) (he : OBJ M e) (hA : ARR G M E labE n f) (hob : ∀ j, j < n → OBJ M (f j)) : GMet l yJ2_add (ws_ yJ2_add cJ2_add 2 (some .boolean)) ({ frames := 6, cells := 1, slots := 100, locals := 150 } : Room) G [.ref L, .ref e] M (ADD G M L lab labE n f e (some (.int (iI 1)))) 1 100 := by
  refine g_start (by decide) (Nat.le_of_ble_eq_true rfl) (fun x hx => ?_)
  refine g_aload_n hx 0 dJ2_add_0 rfl rfl ?_
  refine g_dup hx dJ2_add_1 rfl ?_
  refine gq70 (v := .int (iI mod)) hx rfl dJ2_add_2 hL rfl ?_
  refine g_iconst hx dJ2_add_5 ?_
  refine g_iadd hx dJ2_add_6 ?_
  refine pq70 (fs' := [.int (iI (mod + 1)), .ref E, .int (iI (n : Int))]) hx rfl dJ2_add_7 hL (Nat.le_of_ble_eq_true rfl) rfl ?_
  obtain ⟨M1, e1⟩ : ∃ M1 : gH, M1 = up M L (lab, alc (mod + 1) E n) := ⟨_, rfl⟩
  refine g_M e1.symm ?_
  have hL1 : M1 L = some (lab, alc (mod + 1) E n) := by rw [e1]; exact up_s
  have hf1 : Fr (fun z => z = lab ∨ z = labE) M M1 := by rw [e1]; exact Fr.ofUp hL (Or.inl rfl)
  refine g_aload_n hx 0 dJ2_add_10 rfl rfl ?_
  refine g_aload_n hx 1 dJ2_add_11 rfl rfl ?_
  refine g_aload_n hx 0 dJ2_add_12 rfl rfl ?_
  refine gq67 (v := .ref E) hx rfl dJ2_add_13 hL1 rfl ?_
  refine g_aload_n hx 0 dJ2_add_16 rfl rfl ?_
  refine gq68 (v := .int (iI (n : Int))) hx rfl dJ2_add_17 hL1 rfl ?_
  have hA1 : ARR G M1 E labE n f := by
    rcases hA with h | ⟨cap, r, hE, h1⟩
    · exact Or.inl h
    · exact Or.inr ⟨cap, r, by rw [e1]; exact up_d hL hE (fun h => by cases h), h1⟩
  refine g_callV (rest := []) (na := 3) hx (k_add2 l G M1 L lab (mod + 1) E n hL1 labE f e hn (by rw [e1]; exact he.upL hL) hA1 (fun j hj => by rw [e1]; exact (hob j hj).upL hL)) hL1 rfl (lw_V q260 q262 qs2 q34 q263) rfl rfl (by decide +kernel) rfl ⟨Nat.le_of_ble_eq_true rfl, Nat.le_of_ble_eq_true rfl⟩ rfl (Nat.le_of_ble_eq_true rfl) dJ2_add_20 ⟨Nat.le_of_ble_eq_true rfl, Nat.le_of_ble_eq_true rfl⟩ (fun v_1 M_2 h_3 => ?_)
  obtain ⟨rfl, hAL, hf2⟩ := h_3
  refine g_iconst hx dJ2_add_23 ?_
  exact g_zret hx (Or.inr rfl) (Nat.le_of_ble_eq_true rfl) (Nat.le_of_ble_eq_true rfl) dJ2_add_24 ⟨rfl, hAL, hf1.tr hf2⟩
/-- list.add(e) -/
theorem k_add (l : Launch) (G : gG) (M : gH) (L : Nat) (lab labE : gL) (n : Nat) (f : Nat → Nat) (e : Nat) (hA : AL G M L lab labE n f) (hn : n ≤ 64) (he : OBJ M e) (hob : ∀ j, j < n → OBJ M (f j)) : GMet l yJ2_add (ws_ yJ2_add cJ2_add 2 (some .boolean)) ({ frames := 6, cells := 1, slots := 100, locals := 150 } : Room) G [.ref L, .ref e] M (ADD G M L lab labE n f e (some (.int (iI 1)))) 1 100 := by
  obtain ⟨mod, E, hL, hE⟩ := hA
  exact k_add0 l G M L lab mod E n hL labE f e hn he hE hob
theorem k_set0 (l : Launch) (G : gG) (M : gH) (L : Nat) (lab : gL) (mod : Int) (E n : Nat) (hL : M L = some (lab, alc mod E n)) (cap : Nat) (r : Nat → Option Nat) (labE : gL) (f : Nat → Nat) (hE : M E = some (labE, aO G cap r)) (j e : Nat) (hj : j < n) (hn : n ≤ cap) (hc : cap ≤ 1000) (hr : ∀ q, q < n → r q = some (f q)) (he : OBJ M e) : GMet l yJ2_set (ws_ yJ2_set cJ2_set 4 (some (.object "java/lang/Object"))) ({ frames := 2, cells := 0, slots := 0, locals := 43 } : Room) G [.ref L, .int (iI (j : Int)), .ref e] M (fun v M' => (∃ a, v = some (.ref a)) ∧ AL G M' L lab labE n (fun q => if q = j then e else f q) ∧ Fr (fun z => z = labE) M M') 0 0 := by
  refine g_start (by decide) (Nat.le_of_ble_eq_true rfl) (fun x hx => ?_)
  refine g_iload_n hx 1 dJ2_set_0 rfl rfl ?_
  refine g_aload_n hx 0 dJ2_set_1 rfl rfl ?_
  refine gq68 (v := .int (iI (n : Int))) hx rfl dJ2_set_2 hL rfl ?_
  refine g_pcallS (rest := []) (na := 2) hx (k_chk3 l G M (j : Int) (n : Int) (by omega) (by omega)) (lw_S q168 q169 q36 q170) rfl rfl (by decide +kernel) rfl ⟨Nat.le_of_ble_eq_true rfl, Nat.le_of_ble_eq_true rfl⟩ rfl (Nat.le_of_ble_eq_true rfl) dJ2_set_5 ⟨Nat.zero_le _, Nat.zero_le _⟩ ?_
  refine g_pop hx dJ2_set_8 rfl ?_
  refine g_aload_n hx 0 dJ2_set_9 rfl rfl ?_
  refine g_iload_n hx 1 dJ2_set_10 rfl rfl ?_
  refine g_pcallV (rest := []) (na := 1) hx (k_elementData l G M L lab mod E n hL cap r labE hE j (f j) (by omega) hc (hr j hj)) hL rfl (lw_V q174 q175 q176 q34 q177) rfl rfl (by decide +kernel) rfl ⟨Nat.le_of_ble_eq_true rfl, Nat.le_of_ble_eq_true rfl⟩ rfl (Nat.le_of_ble_eq_true rfl) dJ2_set_11 ⟨Nat.zero_le _, Nat.zero_le _⟩ ?_
  refine g_astore_n (lv' := [(3, .ref (f j)), (0, .ref L), (1, .int (iI (j : Int))), (2, .ref e)]) hx dJ2_set_14 rfl (by decide) rfl ?_
  refine g_aload_n hx 1 dJ2_set_15 rfl rfl ?_
  refine gq67 (v := .ref E) hx rfl dJ2_set_16 hL rfl ?_
  refine g_iload_n hx 2 dJ2_set_19 rfl rfl ?_
  refine g_aload_n hx 3 dJ2_set_20 rfl rfl ?_
  refine g_aastO hx j hE he rfl (by omega) (by omega) dJ2_set_21 ?_
  refine g_aload_n hx 0 dJ2_set_22 rfl rfl ?_
  exact g_aret hx (Or.inl ⟨_, rfl⟩) (Or.inr ⟨_, rfl⟩) (Nat.zero_le _) (Nat.zero_le _) dJ2_set_23 ⟨⟨_, rfl⟩, ⟨mod, E, up_d hE hL (fun h => by cases h), Or.inr ⟨cap, _, up_s, hn, by omega, hc, fun q hq => by by_cases h : q = j <;> simp [va_up, h, hr q hq]⟩⟩, Fr.ofUp hE rfl⟩
/-- list.set(j, e) -/
theorem k_set (l : Launch) (G : gG) (M : gH) (L : Nat) (lab labE : gL) (n : Nat) (f : Nat → Nat) (hA : AL G M L lab labE n f) (j e : Nat) (hj : j < n) (he : OBJ M e) : GMet l yJ2_set (ws_ yJ2_set cJ2_set 4 (some (.object "java/lang/Object"))) ({ frames := 2, cells := 0, slots := 0, locals := 43 } : Room) G [.ref L, .int (iI (j : Int)), .ref e] M (fun v M' => (∃ a, v = some (.ref a)) ∧ AL G M' L lab labE n (fun q => if q = j then e else f q) ∧ Fr (fun z => z = labE) M M') 0 0 := by
  obtain ⟨mod, E, hL, ⟨-, h0⟩ | ⟨cap, r, hE, h1, h2, h3, h4⟩⟩ := hA
  · omega
  · exact k_set0 l G M L lab mod E n hL cap r labE f hE j e hj h1 h3 h4 he
theorem k_clearA (l : Launch) (G : gG) (M : gH) (L : Nat) (lab : gL) (mod : Int) (E n : Nat) (hL : M L = some (lab, alc mod E n)) (labE : gL) (f : Nat → Nat) (cap : Nat) (r : Nat → Option Nat) (hE : M E = some (labE, aO G cap r)) (hn : n ≤ cap ∧ 0 < cap) (hc : cap ≤ 1000) : GMet l yJ2_clear (ws_ yJ2_clear cJ2_clear 4 none) ({ frames := 0, cells := 0, slots := 0, locals := 0 } : Room) G [.ref L] M (fun v M' => v = none ∧ AL G M' L lab labE 0 f ∧ Fr (fun z => z = lab ∨ z = labE) M M') 0 0 := by
  refine g_start (by decide) (Nat.le_of_ble_eq_true rfl) (fun x hx => ?_)
  refine g_aload_n hx 0 dJ2_clear_0 rfl rfl ?_
  refine g_dup hx dJ2_clear_1 rfl ?_
  refine gq70 (v := .int (iI mod)) hx rfl dJ2_clear_2 hL rfl ?_
  refine g_iconst hx dJ2_clear_5 ?_
  refine g_iadd hx dJ2_clear_6 ?_
  refine pq70 (fs' := [.int (iI (mod + 1)), .ref E, .int (iI (n : Int))]) hx rfl dJ2_clear_7 hL (Nat.le_of_ble_eq_true rfl) rfl ?_
  have hL1 : up M L (lab, alc (mod + 1) E n) L = some (lab, alc (mod + 1) E n) := up_s
  refine g_aload_n hx 0 dJ2_clear_10 rfl rfl ?_
  refine gq67 (v := .ref E) hx rfl dJ2_clear_11 hL1 rfl ?_
  refine g_astore_n (lv' := [(1, .ref E), (0, .ref L)]) hx dJ2_clear_14 rfl (by decide) rfl ?_
  refine g_aload_n hx 1 dJ2_clear_15 rfl rfl ?_
  refine gq68 (v := .int (iI (n : Int))) hx rfl dJ2_clear_16 hL1 rfl ?_
  refine g_istore_n (lv' := [(2, .int (iI (n : Int))), (1, .ref E), (0, .ref L)]) hx dJ2_clear_19 rfl (by decide) rfl ?_
  refine g_aload_n hx 2 dJ2_clear_20 rfl rfl ?_
  refine g_iconst hx dJ2_clear_21 ?_
  refine g_dup_x1 hx dJ2_clear_22 rfl rfl ?_
  refine pq68 (fs' := [.int (iI (mod + 1)), .ref E, .int (iI ((0 : Nat) : Int))]) hx rfl dJ2_clear_23 hL1 (Nat.le_of_ble_eq_true rfl) rfl ?_
  obtain ⟨M1, e1⟩ : ∃ M1 : gH, M1 = up (up M L (lab, alc (mod + 1) E n)) L (lab, alc (mod + 1) E 0) := ⟨_, rfl⟩
  refine g_M e1.symm ?_
  have hL2 : M1 L = some (lab, alc (mod + 1) E 0) := by rw [e1]; exact up_s
  have hf1 : Fr (fun z => z = lab ∨ z = labE) M M1 := by rw [e1]; exact (Fr.ofUp hL (Or.inl rfl)).tr (Fr.ofUp up_s (Or.inl rfl))
  refine g_istore_n (lv' := [(3, .int (iI 0)), (2, .int (iI (n : Int))), (1, .ref E), (0, .ref L)]) hx dJ2_clear_26 rfl (by decide) rfl ?_
  have hE1 : M1 E = some (labE, aO G cap r) := by rw [e1]; exact up_d up_s (up_d hL hE (fun h => by cases h)) (fun h => by cases h)
  have lp : ∀ k : Nat, k ≤ n → ∀ r' : Nat → Option Nat, GW x (gQx x (fun v M' => v = none ∧ AL G M' L lab labE 0 f ∧ Fr (fun z => z = lab ∨ z = labE) M M') 0 0) (up M1 E (labE, aO G cap r')) 0 0 27 [(3, .int (iI (k : Int))), (2, .int (iI (n : Int))), (1, .ref E), (0, .ref L)] [] := by
    refine down n (fun k hk ih r' => ?_)
    refine g_iload_n hx 0 dJ2_clear_27 rfl rfl ?_
    refine g_iload_n hx 1 dJ2_clear_28 rfl rfl ?_
    refine g_icmp_ge hx 42 (by omega) (by omega) dJ2_clear_29 (by decide) (fun c_29 => ?_) (fun c_29 => ?_)
    ·
      exact g_vret hx (Nat.zero_le _) (Nat.zero_le _) dJ2_clear_42 ⟨rfl, ⟨mod + 1, E, up_d hE1 hL2 (fun h => by cases h), Or.inr ⟨cap, _, up_s, Nat.zero_le _, by omega, hc, fun j hj => by omega⟩⟩, hf1.tr (Fr.ofUp hE1 (Or.inr rfl))⟩
    ·
      refine g_aload_n hx 2 dJ2_clear_32 rfl rfl ?_
      refine g_iload_n hx 0 dJ2_clear_33 rfl rfl ?_
      refine g_null hx dJ2_clear_34 ?_
      refine g_aastN hx k up_s rfl (by omega) (by omega) dJ2_clear_35 ?_
      refine g_M (M' := up M1 E (labE, aO G cap (va_up r' k none))) (by funext z; by_cases h : z = E <;> simp [up, h]) ?_
      refine g_iinc (lv' := [(3, .int (iI ((k + 1 : Nat) : Int))), (2, .int (iI (n : Int))), (1, .ref E), (0, .ref L)]) (b := ((k + 1 : Nat) : Int)) hx 0 dJ2_clear_36 rfl (by omega) (by decide) rfl ?_
      refine g_goto hx 27 dJ2_clear_39 (by decide) ?_
      exact g_lv [0, 1, 2, 3] rfl (ih (by omega) _)
  refine g_M (up_e hE1).symm ?_
  exact g_lv [0, 1, 2, 3] rfl (lp 0 (Nat.zero_le _) r)
theorem k_clearB (l : Launch) (G : gG) (M : gH) (L : Nat) (lab : gL) (mod : Int) (E n : Nat) (hL : M L = some (lab, alc mod E n)) (labE : gL) (f : Nat → Nat) (hE0 : E = G.2.2.2.1) (hn : n = 0) : GMet l yJ2_clear (ws_ yJ2_clear cJ2_clear 4 none) ({ frames := 0, cells := 0, slots := 0, locals := 0 } : Room) G [.ref L] M (fun v M' => v = none ∧ AL G M' L lab labE 0 f ∧ Fr (fun z => z = lab ∨ z = labE) M M') 0 0 := by
  refine g_start (by decide) (Nat.le_of_ble_eq_true rfl) (fun x hx => ?_)
  refine g_aload_n hx 0 dJ2_clear_0 rfl rfl ?_
  refine g_dup hx dJ2_clear_1 rfl ?_
  refine gq70 (v := .int (iI mod)) hx rfl dJ2_clear_2 hL rfl ?_
  refine g_iconst hx dJ2_clear_5 ?_
  refine g_iadd hx dJ2_clear_6 ?_
  refine pq70 (fs' := [.int (iI (mod + 1)), .ref E, .int (iI (n : Int))]) hx rfl dJ2_clear_7 hL (Nat.le_of_ble_eq_true rfl) rfl ?_
  have hL1 : up M L (lab, alc (mod + 1) E n) L = some (lab, alc (mod + 1) E n) := up_s
  refine g_aload_n hx 0 dJ2_clear_10 rfl rfl ?_
  refine gq67 (v := .ref E) hx rfl dJ2_clear_11 hL1 rfl ?_
  refine g_astore_n (lv' := [(1, .ref E), (0, .ref L)]) hx dJ2_clear_14 rfl (by decide) rfl ?_
  refine g_aload_n hx 1 dJ2_clear_15 rfl rfl ?_
  refine gq68 (v := .int (iI (n : Int))) hx rfl dJ2_clear_16 hL1 rfl ?_
  refine g_istore_n (lv' := [(2, .int (iI (n : Int))), (1, .ref E), (0, .ref L)]) hx dJ2_clear_19 rfl (by decide) rfl ?_
  refine g_aload_n hx 2 dJ2_clear_20 rfl rfl ?_
  refine g_iconst hx dJ2_clear_21 ?_
  refine g_dup_x1 hx dJ2_clear_22 rfl rfl ?_
  refine pq68 (fs' := [.int (iI (mod + 1)), .ref E, .int (iI ((0 : Nat) : Int))]) hx rfl dJ2_clear_23 hL1 (Nat.le_of_ble_eq_true rfl) rfl ?_
  obtain ⟨M1, e1⟩ : ∃ M1 : gH, M1 = up (up M L (lab, alc (mod + 1) E n)) L (lab, alc (mod + 1) E 0) := ⟨_, rfl⟩
  refine g_M e1.symm ?_
  have hL2 : M1 L = some (lab, alc (mod + 1) E 0) := by rw [e1]; exact up_s
  have hf1 : Fr (fun z => z = lab ∨ z = labE) M M1 := by rw [e1]; exact (Fr.ofUp hL (Or.inl rfl)).tr (Fr.ofUp up_s (Or.inl rfl))
  refine g_istore_n (lv' := [(3, .int (iI 0)), (2, .int (iI (n : Int))), (1, .ref E), (0, .ref L)]) hx dJ2_clear_26 rfl (by decide) rfl ?_
  refine g_iload_n hx 0 dJ2_clear_27 rfl rfl ?_
  refine g_iload_n hx 1 dJ2_clear_28 rfl rfl ?_
  refine g_icmp_ge hx 42 (by omega) (by omega) dJ2_clear_29 (by decide) (fun c_29 => ?_) (fun c_29 => ?_)
  ·
    exact g_vret hx (Nat.zero_le _) (Nat.zero_le _) dJ2_clear_42 ⟨rfl, ⟨mod + 1, E, hL2, Or.inl ⟨hE0, rfl⟩⟩, hf1⟩
  · exact absurd c_29 (by omega)
/-- list.clear() -/
theorem k_clear (l : Launch) (G : gG) (M : gH) (L : Nat) (lab labE : gL) (n : Nat) (f : Nat → Nat) (hA : AL G M L lab labE n f) : GMet l yJ2_clear (ws_ yJ2_clear cJ2_clear 4 none) ({ frames := 0, cells := 0, slots := 0, locals := 0 } : Room) G [.ref L] M (fun v M' => v = none ∧ AL G M' L lab labE 0 f ∧ Fr (fun z => z = lab ∨ z = labE) M M') 0 0 := by
  obtain ⟨mod, E, hL, ⟨h1, h0⟩ | ⟨cap, r, hE, h1, h2, h3, h4⟩⟩ := hA
  · exact k_clearB l G M L lab mod E n hL labE f h1 h0
  · exact k_clearA l G M L lab mod E n hL labE f cap r hE ⟨h1, h2⟩ h3
theorem k_rangeAdd (l : Launch) (G : gG) (M : gH) (L : Nat) (lab : gL) (mod : Int) (E n : Nat) (hL : M L = some (lab, alc mod E n)) (j : Nat) (hj : j ≤ n) (hn : n ≤ 1000) : GMet l yJ2_rangeCheckForAdd (ws_ yJ2_rangeCheckForAdd cJ2_rangeCheckForAdd 2 none) ({ frames := 0, cells := 0, slots := 0, locals := 0 } : Room) G [.ref L, .int (iI (j : Int))] M (fun v M' => v = none ∧ M' = M) 0 0 := by
  refine g_start (by decide) (Nat.le_of_ble_eq_true rfl) (fun x hx => ?_)
  refine g_iload_n hx 1 dJ2_rangeCheckForAdd_0 rfl rfl ?_
  refine g_aload_n hx 0 dJ2_rangeCheckForAdd_1 rfl rfl ?_
  refine gq68 (v := .int (iI (n : Int))) hx rfl dJ2_rangeCheckForAdd_2 hL rfl ?_
  refine g_icmp_gt hx 12 (by omega) (by omega) dJ2_rangeCheckForAdd_5 (by decide) (fun c_5 => ?_) (fun c_5 => ?_)
  · exact absurd c_5 (by omega)
  ·
    refine g_iload_n hx 1 dJ2_rangeCheckForAdd_8 rfl rfl ?_
    refine g_if_ge hx 25 (by omega) dJ2_rangeCheckForAdd_9 (by decide) (fun c_9 => ?_) (fun c_9 => ?_)
    ·
      exact g_vret hx (Nat.zero_le _) (Nat.zero_le _) dJ2_rangeCheckForAdd_25 ⟨rfl, rfl⟩
    · exact absurd c_9 (by omega)
def insf (f : Nat → Nat) (i e : Nat) : Nat → Nat := fun j => if j < i then f j else if j = i then e else f (j - 1)
def INS (G : gG) (M : gH) (L : Nat) (lab labE : gL) (n : Nat) (f : Nat → Nat) (i e : Nat) : Option Value → gH → Prop := fun v M' => v = none ∧ AL G M' L lab labE (n + 1) (insf f i e) ∧ Fr (fun z => z = lab ∨ z = labE) M M'
theorem al_ins {G : gG} {M : gH} {L : Nat} {lab labE : gL} {mod : Int} {a N n i : Nat} {r : Nat → Option Nat} {f : Nat → Nat} {e : Nat} (h1 : M L = some (lab, alc mod a (n + 1))) (h2 : M a = some (labE, aO G N (va_up (va_cpy r r i (i + 1) (n - i)) i (some e)))) (hN : n < N ∧ N ≤ 1000) (hi : i ≤ n) (hr : ∀ j, j < n → r j = some (f j)) : AL G M L lab labE (n + 1) (insf f i e) := by
  refine ⟨mod, a, h1, Or.inr ⟨N, _, h2, by omega, by omega, hN.2, fun j hj => ?_⟩⟩
  unfold insf va_up va_cpy
  by_cases h : j = i
  · subst h; simp
  · by_cases h' : j < i
    · rw [if_neg h, if_neg (by omega), if_pos h']
      exact hr j (by omega)
    · rw [if_neg h, if_pos (by omega), if_neg h', if_neg h]
      rw [show i + (j - (i + 1)) = j - 1 by omega]
      exact hr (j - 1) (by omega)
theorem k_insA (l : Launch) (G : gG) (M : gH) (L : Nat) (lab : gL) (mod : Int) (E n : Nat) (hL : M L = some (lab, alc mod E n)) (labE : gL) (f : Nat → Nat) (j e : Nat) (hj : j ≤ n) (hn : n ≤ 64) (he : OBJ M e) (hob : ∀ q, q < n → OBJ M (f q)) (cap : Nat) (r : Nat → Option Nat) (hE : M E = some (labE, aO G cap r)) (hc : n < cap ∧ cap ≤ 1000) (hr : ∀ q, q < n → r q = some (f q)) : GMet l yJ2_add_3 (ws_ yJ2_add_3 cJ2_add_3 5 none) ({ frames := 5, cells := 1, slots := 100, locals := 127 } : Room) G [.ref L, .int (iI (j : Int)), .ref e] M (INS G M L lab labE n f j e) 1 100 := by
  refine g_start (by decide) (Nat.le_of_ble_eq_true rfl) (fun x hx => ?_)
  refine g_aload_n hx 0 dJ2_add_3_0 rfl rfl ?_
  refine g_iload_n hx 1 dJ2_add_3_1 rfl rfl ?_
  refine g_callV (rest := []) (na := 1) hx (k_rangeAdd l G M L lab mod E n hL j hj (by omega)) hL rfl (lw_V q454 q456 qs15 q34 q457) rfl rfl (by decide +kernel) rfl ⟨Nat.le_of_ble_eq_true rfl, Nat.le_of_ble_eq_true rfl⟩ rfl (Nat.le_of_ble_eq_true rfl) dJ2_add_3_2 ⟨Nat.zero_le _, Nat.zero_le _⟩ (fun v_1 M_2 h_3 => ?_)
  obtain ⟨rfl, h2⟩ := h_3; have h2 := h2.symm; subst h2
  refine g_aload_n hx 0 dJ2_add_3_5 rfl rfl ?_
  refine g_dup hx dJ2_add_3_6 rfl ?_
  refine gq70 (v := .int (iI mod)) hx rfl dJ2_add_3_7 hL rfl ?_
  refine g_iconst hx dJ2_add_3_10 ?_
  refine g_iadd hx dJ2_add_3_11 ?_
  refine pq70 (fs' := [.int (iI (mod + 1)), .ref E, .int (iI (n : Int))]) hx rfl dJ2_add_3_12 hL (Nat.le_of_ble_eq_true rfl) rfl ?_
  obtain ⟨M1, e1⟩ : ∃ M1 : gH, M1 = up M L (lab, alc (mod + 1) E n) := ⟨_, rfl⟩
  refine g_M e1.symm ?_
  have hL1 : M1 L = some (lab, alc (mod + 1) E n) := by rw [e1]; exact up_s
  have hf1 : Fr (fun z => z = lab ∨ z = labE) M M1 := by rw [e1]; exact Fr.ofUp hL (Or.inl rfl)
  have hE1 : M1 E = some (labE, aO G cap r) := by rw [e1]; exact up_d hL hE (fun h => by cases h)
  have he1 : OBJ M1 e := by rw [e1]; exact he.upL hL
  have hob1 : ∀ j, j < n → OBJ M1 (f j) := by intro j hj; rw [e1]; exact (hob j hj).upL hL
  refine g_aload_n hx 0 dJ2_add_3_15 rfl rfl ?_
  refine gq68 (v := .int (iI (n : Int))) hx rfl dJ2_add_3_16 hL1 rfl ?_
  refine g_dup hx dJ2_add_3_19 rfl ?_
  refine g_istore_n (lv' := [(3, .int (iI (n : Int))), (0, .ref L), (1, .int (iI (j : Int))), (2, .ref e)]) hx dJ2_add_3_20 rfl (by decide) rfl ?_
  refine g_aload_n hx 1 dJ2_add_3_21 rfl rfl ?_
  refine gq67 (v := .ref E) hx rfl dJ2_add_3_22 hL1 rfl ?_
  refine g_dup hx dJ2_add_3_25 rfl ?_
  refine g_astore (lv' := [(4, .ref E), (3, .int (iI (n : Int))), (0, .ref L), (1, .int (iI (j : Int))), (2, .ref e)]) hx dJ2_add_3_26 (by decide) rfl ?_
  refine g_alen hx hE1 dJ2_add_3_28 ?_
  refine g_icmp_ne hx 38 (by omega) (by omega) dJ2_add_3_29 (by decide) (fun c_29 => ?_) (fun c_29 => ?_)
  ·
    refine g_aload hx 0 dJ2_add_3_38 rfl ?_
    refine g_iload_n hx 3 dJ2_add_3_40 rfl rfl ?_
    refine g_aload hx 0 dJ2_add_3_41 rfl ?_
    refine g_iload_n hx 3 dJ2_add_3_43 rfl rfl ?_
    refine g_iconst hx dJ2_add_3_44 ?_
    refine g_iadd hx dJ2_add_3_45 ?_
    refine g_iload_n hx 1 dJ2_add_3_46 rfl rfl ?_
    refine g_iload_n hx 3 dJ2_add_3_47 rfl rfl ?_
    refine g_isub hx dJ2_add_3_48 ?_
    refine g_st (st' := [.int (iI ((n - j : Nat) : Int)), .int (iI ((j + 1 : Nat) : Int)), .ref E, .int (iI (j : Int)), .ref E]) (by rw [show ((n - j : Nat) : Int) = (n : Int) - (j : Int) by omega]; rfl) ?_
    refine g_copy hx j (j + 1) (n - j) hE1 hE1 q458 (by omega) (by omega) (by omega) (by omega) (fun i hi z hz => ?_) ⟨Nat.le_of_ble_eq_true rfl, Nat.le_of_ble_eq_true rfl⟩ (Nat.le_of_ble_eq_true rfl) dJ2_add_3_49 ?_
    · rw [hr (j + i) (by omega)] at hz; cases hz; exact hob1 (j + i) (by omega)
    have hE3 : up M1 E (labE, aO G cap (va_cpy r r j (j + 1) (n - j))) E = some (labE, aO G cap (va_cpy r r j (j + 1) (n - j))) := up_s
    refine g_aload hx 0 dJ2_add_3_52 rfl ?_
    refine g_iload_n hx 3 dJ2_add_3_54 rfl rfl ?_
    refine g_aload_n hx 4 dJ2_add_3_55 rfl rfl ?_
    refine g_aastO hx j hE3 (he1.upA hE1) rfl (by omega) (by omega) dJ2_add_3_56 ?_
    refine g_M (M' := up M1 E (labE, aO G cap (va_up (va_cpy r r j (j + 1) (n - j)) j (some e)))) (by funext z; by_cases h : z = E <;> simp [up, h]) ?_
    have hL4 : up M1 E (labE, aO G cap (va_up (va_cpy r r j (j + 1) (n - j)) j (some e))) L = some (lab, alc (mod + 1) E n) := up_d hE1 hL1 (fun h => by cases h)
    refine g_aload_n hx 2 dJ2_add_3_57 rfl rfl ?_
    refine g_iload_n hx 1 dJ2_add_3_58 rfl rfl ?_
    refine g_iconst hx dJ2_add_3_59 ?_
    refine g_iadd hx dJ2_add_3_60 ?_
    refine g_top (b := ((n + 1 : Nat) : Int)) (by omega) ?_
    refine pq68 (fs' := [.int (iI (mod + 1)), .ref E, .int (iI ((n + 1 : Nat) : Int))]) hx rfl dJ2_add_3_61 hL4 (Nat.le_of_ble_eq_true rfl) rfl ?_
    exact g_vret hx (Nat.zero_le _) (Nat.zero_le _) dJ2_add_3_64 ⟨rfl, al_ins up_s (up_d hL4 up_s (fun h => by cases h)) (by omega) hj hr, hf1.tr ((Fr.ofUp hE1 (Or.inr rfl)).tr (Fr.ofUp hL4 (Or.inl rfl)))⟩
  · exact absurd c_29 (by omega)
theorem k_insB (l : Launch) (G : gG) (M : gH) (L : Nat) (lab : gL) (mod : Int) (E n : Nat) (hL : M L = some (lab, alc mod E n)) (labE : gL) (f : Nat → Nat) (j e : Nat) (hj : j ≤ n) (hn : n ≤ 64) (he : OBJ M e) (hob : ∀ q, q < n → OBJ M (f q)) (hn0 : 0 < n) (r : Nat → Option Nat) (hE : M E = some (labE, aO G n r)) (hr : ∀ q, q < n → r q = some (f q)) : GMet l yJ2_add_3 (ws_ yJ2_add_3 cJ2_add_3 5 none) ({ frames := 5, cells := 1, slots := 100, locals := 127 } : Room) G [.ref L, .int (iI (j : Int)), .ref e] M (INS G M L lab labE n f j e) 1 100 := by
  refine g_start (by decide) (Nat.le_of_ble_eq_true rfl) (fun x hx => ?_)
  refine g_aload_n hx 0 dJ2_add_3_0 rfl rfl ?_
  refine g_iload_n hx 1 dJ2_add_3_1 rfl rfl ?_
  refine g_callV (rest := []) (na := 1) hx (k_rangeAdd l G M L lab mod E n hL j hj (by omega)) hL rfl (lw_V q454 q456 qs15 q34 q457) rfl rfl (by decide +kernel) rfl ⟨Nat.le_of_ble_eq_true rfl, Nat.le_of_ble_eq_true rfl⟩ rfl (Nat.le_of_ble_eq_true rfl) dJ2_add_3_2 ⟨Nat.zero_le _, Nat.zero_le _⟩ (fun v_1 M_2 h_3 => ?_)
  obtain ⟨rfl, h2⟩ := h_3; have h2 := h2.symm; subst h2
  refine g_aload_n hx 0 dJ2_add_3_5 rfl rfl ?_
  refine g_dup hx dJ2_add_3_6 rfl ?_
  refine gq70 (v := .int (iI mod)) hx rfl dJ2_add_3_7 hL rfl ?_
  refine g_iconst hx dJ2_add_3_10 ?_
  refine g_iadd hx dJ2_add_3_11 ?_
  refine pq70 (fs' := [.int (iI (mod + 1)), .ref E, .int (iI (n : Int))]) hx rfl dJ2_add_3_12 hL (Nat.le_of_ble_eq_true rfl) rfl ?_
  obtain ⟨M1, e1⟩ : ∃ M1 : gH, M1 = up M L (lab, alc (mod + 1) E n) := ⟨_, rfl⟩
  refine g_M e1.symm ?_
  have hL1 : M1 L = some (lab, alc (mod + 1) E n) := by rw [e1]; exact up_s
  have hf1 : Fr (fun z => z = lab ∨ z = labE) M M1 := by rw [e1]; exact Fr.ofUp hL (Or.inl rfl)
  have hE1 : M1 E = some (labE, aO G n r) := by rw [e1]; exact up_d hL hE (fun h => by cases h)
  have he1 : OBJ M1 e := by rw [e1]; exact he.upL hL
  have hob1 : ∀ j, j < n → OBJ M1 (f j) := by intro j hj; rw [e1]; exact (hob j hj).upL hL
  refine g_aload_n hx 0 dJ2_add_3_15 rfl rfl ?_
  refine gq68 (v := .int (iI (n : Int))) hx rfl dJ2_add_3_16 hL1 rfl ?_
  refine g_dup hx dJ2_add_3_19 rfl ?_
  refine g_istore_n (lv' := [(3, .int (iI (n : Int))), (0, .ref L), (1, .int (iI (j : Int))), (2, .ref e)]) hx dJ2_add_3_20 rfl (by decide) rfl ?_
  refine g_aload_n hx 1 dJ2_add_3_21 rfl rfl ?_
  refine gq67 (v := .ref E) hx rfl dJ2_add_3_22 hL1 rfl ?_
  refine g_dup hx dJ2_add_3_25 rfl ?_
  refine g_astore (lv' := [(4, .ref E), (3, .int (iI (n : Int))), (0, .ref L), (1, .int (iI (j : Int))), (2, .ref e)]) hx dJ2_add_3_26 (by decide) rfl ?_
  refine g_alen hx hE1 dJ2_add_3_28 ?_
  refine g_icmp_ne hx 38 (by omega) (by omega) dJ2_add_3_29 (by decide) (fun c_29 => ?_) (fun c_29 => ?_)
  · exact absurd rfl c_29
  ·
    refine g_aload_n hx 2 dJ2_add_3_32 rfl rfl ?_
    refine g_callV (rest := []) (na := 0) hx (k_grow l G M1 L lab (mod + 1) E n hL1 labE r hn (Or.inr ⟨hE1, hn0⟩) (fun q hq z hz => by rw [hr q hq] at hz; cases hz; exact hob1 q hq)) hL1 rfl (lw_V q264 q266 qs3 q34 q267) rfl rfl (by decide +kernel) rfl ⟨Nat.le_of_ble_eq_true rfl, Nat.le_of_ble_eq_true rfl⟩ rfl (Nat.le_of_ble_eq_true rfl) dJ2_add_3_33 ⟨Nat.le_of_ble_eq_true rfl, Nat.le_of_ble_eq_true rfl⟩ (fun v_4 M_5 h_6 => ?_)
    obtain ⟨a, N, r', rfl, ha, hN1, hN2, hr1, rfl⟩ := h_6
    have hne : a ≠ L := fun h => by subst h; rw [ha] at hL1; cases hL1
    obtain ⟨M2, e2⟩ : ∃ M2 : gH, M2 = up (up M1 a (labE, aO G N r')) L (lab, alc (mod + 1) a n) := ⟨_, rfl⟩
    refine g_M e2.symm ?_
    have hE2 : M2 a = some (labE, aO G N r') := by rw [e2, up_n hne]; exact up_s
    have hL2 : M2 L = some (lab, alc (mod + 1) a n) := by rw [e2]; exact up_s
    have hL0 : up M1 a (labE, aO G N r') L = some (lab, alc (mod + 1) E n) := up_f ha hL1
    have he2 : OBJ M2 e := by rw [e2]; exact (he1.upF ha).upL hL0
    have hob2 : ∀ j, j < n → OBJ M2 (f j) := by intro j hj; rw [e2]; exact ((hob1 j hj).upF ha).upL hL0
    have hr2 : ∀ j, j < n → r' j = some (f j) := fun j hj => (hr1 j hj).trans (hr j hj)
    have hf2 : Fr (fun z => z = lab ∨ z = labE) M M2 := by rw [e2]; exact hf1.tr ((Fr.new ha).tr (Fr.ofUp hL0 (Or.inl rfl)))
    refine g_astore (lv' := [(4, .ref a), (3, .int (iI (n : Int))), (0, .ref L), (1, .int (iI (j : Int))), (2, .ref e)]) hx dJ2_add_3_36 (by decide) rfl ?_
    refine g_aload hx 0 dJ2_add_3_38 rfl ?_
    refine g_iload_n hx 3 dJ2_add_3_40 rfl rfl ?_
    refine g_aload hx 0 dJ2_add_3_41 rfl ?_
    refine g_iload_n hx 3 dJ2_add_3_43 rfl rfl ?_
    refine g_iconst hx dJ2_add_3_44 ?_
    refine g_iadd hx dJ2_add_3_45 ?_
    refine g_iload_n hx 1 dJ2_add_3_46 rfl rfl ?_
    refine g_iload_n hx 3 dJ2_add_3_47 rfl rfl ?_
    refine g_isub hx dJ2_add_3_48 ?_
    refine g_st (st' := [.int (iI ((n - j : Nat) : Int)), .int (iI ((j + 1 : Nat) : Int)), .ref a, .int (iI (j : Int)), .ref a]) (by rw [show ((n - j : Nat) : Int) = (n : Int) - (j : Int) by omega]; rfl) ?_
    refine g_copy hx j (j + 1) (n - j) hE2 hE2 q458 (by omega) (by omega) (by omega) (by omega) (fun i hi z hz => ?_) ⟨Nat.le_of_ble_eq_true rfl, Nat.le_of_ble_eq_true rfl⟩ (Nat.le_of_ble_eq_true rfl) dJ2_add_3_49 ?_
    · rw [hr2 (j + i) (by omega)] at hz; cases hz; exact hob2 (j + i) (by omega)
    have hE3 : up M2 a (labE, aO G N (va_cpy r' r' j (j + 1) (n - j))) a = some (labE, aO G N (va_cpy r' r' j (j + 1) (n - j))) := up_s
    refine g_aload hx 0 dJ2_add_3_52 rfl ?_
    refine g_iload_n hx 3 dJ2_add_3_54 rfl rfl ?_
    refine g_aload_n hx 4 dJ2_add_3_55 rfl rfl ?_
    refine g_aastO hx j hE3 (he2.upA hE2) rfl (by omega) (by omega) dJ2_add_3_56 ?_
    refine g_M (M' := up M2 a (labE, aO G N (va_up (va_cpy r' r' j (j + 1) (n - j)) j (some e)))) (by funext z; by_cases h : z = a <;> simp [up, h]) ?_
    have hL4 : up M2 a (labE, aO G N (va_up (va_cpy r' r' j (j + 1) (n - j)) j (some e))) L = some (lab, alc (mod + 1) a n) := up_d hE2 hL2 (fun h => by cases h)
    refine g_aload_n hx 2 dJ2_add_3_57 rfl rfl ?_
    refine g_iload_n hx 1 dJ2_add_3_58 rfl rfl ?_
    refine g_iconst hx dJ2_add_3_59 ?_
    refine g_iadd hx dJ2_add_3_60 ?_
    refine g_top (b := ((n + 1 : Nat) : Int)) (by omega) ?_
    refine pq68 (fs' := [.int (iI (mod + 1)), .ref a, .int (iI ((n + 1 : Nat) : Int))]) hx rfl dJ2_add_3_61 hL4 (Nat.le_of_ble_eq_true rfl) rfl ?_
    exact g_vret hx (Nat.le_of_ble_eq_true rfl) (Nat.le_of_ble_eq_true rfl) dJ2_add_3_64 ⟨rfl, al_ins up_s (up_d hL4 up_s (fun h => by cases h)) (by omega) hj hr2, hf2.tr ((Fr.ofUp hE2 (Or.inr rfl)).tr (Fr.ofUp hL4 (Or.inl rfl)))⟩
theorem k_insC (l : Launch) (G : gG) (M : gH) (L : Nat) (lab : gL) (mod : Int) (n : Nat) (hL : M L = some (lab, alc mod G.2.2.2.1 n)) (labE : gL) (f : Nat → Nat) (j e : Nat) (hj : j ≤ n) (hn : n ≤ 64) (he : OBJ M e) (hob : ∀ q, q < n → OBJ M (f q)) (hn0 : n = 0) (r : Nat → Option Nat) (hr : ∀ q, q < n → r q = some (f q)) : GMet l yJ2_add_3 (ws_ yJ2_add_3 cJ2_add_3 5 none) ({ frames := 5, cells := 1, slots := 100, locals := 127 } : Room) G [.ref L, .int (iI (j : Int)), .ref e] M (INS G M L lab labE n f j e) 1 100 := by
  refine g_start (by decide) (Nat.le_of_ble_eq_true rfl) (fun x hx => ?_)
  refine g_aload_n hx 0 dJ2_add_3_0 rfl rfl ?_
  refine g_iload_n hx 1 dJ2_add_3_1 rfl rfl ?_
  refine g_callV (rest := []) (na := 1) hx (k_rangeAdd l G M L lab mod G.2.2.2.1 n hL j hj (by omega)) hL rfl (lw_V q454 q456 qs15 q34 q457) rfl rfl (by decide +kernel) rfl ⟨Nat.le_of_ble_eq_true rfl, Nat.le_of_ble_eq_true rfl⟩ rfl (Nat.le_of_ble_eq_true rfl) dJ2_add_3_2 ⟨Nat.zero_le _, Nat.zero_le _⟩ (fun v_1 M_2 h_3 => ?_)
  obtain ⟨rfl, h2⟩ := h_3; have h2 := h2.symm; subst h2
  refine g_aload_n hx 0 dJ2_add_3_5 rfl rfl ?_
  refine g_dup hx dJ2_add_3_6 rfl ?_
  refine gq70 (v := .int (iI mod)) hx rfl dJ2_add_3_7 hL rfl ?_
  refine g_iconst hx dJ2_add_3_10 ?_
  refine g_iadd hx dJ2_add_3_11 ?_
  refine pq70 (fs' := [.int (iI (mod + 1)), .ref G.2.2.2.1, .int (iI (n : Int))]) hx rfl dJ2_add_3_12 hL (Nat.le_of_ble_eq_true rfl) rfl ?_
  obtain ⟨M1, e1⟩ : ∃ M1 : gH, M1 = up M L (lab, alc (mod + 1) G.2.2.2.1 n) := ⟨_, rfl⟩
  refine g_M e1.symm ?_
  have hL1 : M1 L = some (lab, alc (mod + 1) G.2.2.2.1 n) := by rw [e1]; exact up_s
  have hf1 : Fr (fun z => z = lab ∨ z = labE) M M1 := by rw [e1]; exact Fr.ofUp hL (Or.inl rfl)
  have he1 : OBJ M1 e := by rw [e1]; exact he.upL hL
  have hob1 : ∀ j, j < n → OBJ M1 (f j) := by intro j hj; rw [e1]; exact (hob j hj).upL hL
  refine g_aload_n hx 0 dJ2_add_3_15 rfl rfl ?_
  refine gq68 (v := .int (iI (n : Int))) hx rfl dJ2_add_3_16 hL1 rfl ?_
  refine g_dup hx dJ2_add_3_19 rfl ?_
  refine g_istore_n (lv' := [(3, .int (iI (n : Int))), (0, .ref L), (1, .int (iI (j : Int))), (2, .ref e)]) hx dJ2_add_3_20 rfl (by decide) rfl ?_
  refine g_aload_n hx 1 dJ2_add_3_21 rfl rfl ?_
  refine gq67 (v := .ref G.2.2.2.1) hx rfl dJ2_add_3_22 hL1 rfl ?_
  refine g_dup hx dJ2_add_3_25 rfl ?_
  refine g_astore (lv' := [(4, .ref G.2.2.2.1), (3, .int (iI (n : Int))), (0, .ref L), (1, .int (iI (j : Int))), (2, .ref e)]) hx dJ2_add_3_26 (by decide) rfl ?_
  refine g_alenD hx dJ2_add_3_28 ?_
  refine g_icmp_ne hx 38 (by omega) (by omega) dJ2_add_3_29 (by decide) (fun c_29 => ?_) (fun c_29 => ?_)
  · exact absurd (by omega) c_29
  ·
    refine g_aload_n hx 2 dJ2_add_3_32 rfl rfl ?_
    refine g_callV (rest := []) (na := 0) hx (k_grow l G M1 L lab (mod + 1) G.2.2.2.1 n hL1 labE r hn (Or.inl ⟨rfl, hn0⟩) (fun q hq z hz => by rw [hr q hq] at hz; cases hz; exact hob1 q hq)) hL1 rfl (lw_V q264 q266 qs3 q34 q267) rfl rfl (by decide +kernel) rfl ⟨Nat.le_of_ble_eq_true rfl, Nat.le_of_ble_eq_true rfl⟩ rfl (Nat.le_of_ble_eq_true rfl) dJ2_add_3_33 ⟨Nat.le_of_ble_eq_true rfl, Nat.le_of_ble_eq_true rfl⟩ (fun v_4 M_5 h_6 => ?_)
    obtain ⟨a, N, r', rfl, ha, hN1, hN2, hr1, rfl⟩ := h_6
    have hne : a ≠ L := fun h => by subst h; rw [ha] at hL1; cases hL1
    obtain ⟨M2, e2⟩ : ∃ M2 : gH, M2 = up (up M1 a (labE, aO G N r')) L (lab, alc (mod + 1) a n) := ⟨_, rfl⟩
    refine g_M e2.symm ?_
    have hE2 : M2 a = some (labE, aO G N r') := by rw [e2, up_n hne]; exact up_s
    have hL2 : M2 L = some (lab, alc (mod + 1) a n) := by rw [e2]; exact up_s
    have hL0 : up M1 a (labE, aO G N r') L = some (lab, alc (mod + 1) G.2.2.2.1 n) := up_f ha hL1
    have he2 : OBJ M2 e := by rw [e2]; exact (he1.upF ha).upL hL0
    have hob2 : ∀ j, j < n → OBJ M2 (f j) := by intro j hj; rw [e2]; exact ((hob1 j hj).upF ha).upL hL0
    have hr2 : ∀ j, j < n → r' j = some (f j) := fun j hj => (hr1 j hj).trans (hr j hj)
    have hf2 : Fr (fun z => z = lab ∨ z = labE) M M2 := by rw [e2]; exact hf1.tr ((Fr.new ha).tr (Fr.ofUp hL0 (Or.inl rfl)))
    refine g_astore (lv' := [(4, .ref a), (3, .int (iI (n : Int))), (0, .ref L), (1, .int (iI (j : Int))), (2, .ref e)]) hx dJ2_add_3_36 (by decide) rfl ?_
    refine g_aload hx 0 dJ2_add_3_38 rfl ?_
    refine g_iload_n hx 3 dJ2_add_3_40 rfl rfl ?_
    refine g_aload hx 0 dJ2_add_3_41 rfl ?_
    refine g_iload_n hx 3 dJ2_add_3_43 rfl rfl ?_
    refine g_iconst hx dJ2_add_3_44 ?_
    refine g_iadd hx dJ2_add_3_45 ?_
    refine g_iload_n hx 1 dJ2_add_3_46 rfl rfl ?_
    refine g_iload_n hx 3 dJ2_add_3_47 rfl rfl ?_
    refine g_isub hx dJ2_add_3_48 ?_
    refine g_st (st' := [.int (iI ((n - j : Nat) : Int)), .int (iI ((j + 1 : Nat) : Int)), .ref a, .int (iI (j : Int)), .ref a]) (by rw [show ((n - j : Nat) : Int) = (n : Int) - (j : Int) by omega]; rfl) ?_
    refine g_copy hx j (j + 1) (n - j) hE2 hE2 q458 (by omega) (by omega) (by omega) (by omega) (fun i hi z hz => ?_) ⟨Nat.le_of_ble_eq_true rfl, Nat.le_of_ble_eq_true rfl⟩ (Nat.le_of_ble_eq_true rfl) dJ2_add_3_49 ?_
    · rw [hr2 (j + i) (by omega)] at hz; cases hz; exact hob2 (j + i) (by omega)
    have hE3 : up M2 a (labE, aO G N (va_cpy r' r' j (j + 1) (n - j))) a = some (labE, aO G N (va_cpy r' r' j (j + 1) (n - j))) := up_s
    refine g_aload hx 0 dJ2_add_3_52 rfl ?_
    refine g_iload_n hx 3 dJ2_add_3_54 rfl rfl ?_
    refine g_aload_n hx 4 dJ2_add_3_55 rfl rfl ?_
    refine g_aastO hx j hE3 (he2.upA hE2) rfl (by omega) (by omega) dJ2_add_3_56 ?_
    refine g_M (M' := up M2 a (labE, aO G N (va_up (va_cpy r' r' j (j + 1) (n - j)) j (some e)))) (by funext z; by_cases h : z = a <;> simp [up, h]) ?_
    have hL4 : up M2 a (labE, aO G N (va_up (va_cpy r' r' j (j + 1) (n - j)) j (some e))) L = some (lab, alc (mod + 1) a n) := up_d hE2 hL2 (fun h => by cases h)
    refine g_aload_n hx 2 dJ2_add_3_57 rfl rfl ?_
    refine g_iload_n hx 1 dJ2_add_3_58 rfl rfl ?_
    refine g_iconst hx dJ2_add_3_59 ?_
    refine g_iadd hx dJ2_add_3_60 ?_
    refine g_top (b := ((n + 1 : Nat) : Int)) (by omega) ?_
    refine pq68 (fs' := [.int (iI (mod + 1)), .ref a, .int (iI ((n + 1 : Nat) : Int))]) hx rfl dJ2_add_3_61 hL4 (Nat.le_of_ble_eq_true rfl) rfl ?_
    exact g_vret hx (Nat.le_of_ble_eq_true rfl) (Nat.le_of_ble_eq_true rfl) dJ2_add_3_64 ⟨rfl, al_ins up_s (up_d hL4 up_s (fun h => by cases h)) (by omega) hj hr2, hf2.tr ((Fr.ofUp hE2 (Or.inr rfl)).tr (Fr.ofUp hL4 (Or.inl rfl)))⟩
/-- list.add(j, e) -/
theorem k_ins (l : Launch) (G : gG) (M : gH) (L : Nat) (lab labE : gL) (n : Nat) (f : Nat → Nat) (hA : AL G M L lab labE n f) (j e : Nat) (hj : j ≤ n) (hn : n ≤ 64) (he : OBJ M e) (hob : ∀ q, q < n → OBJ M (f q)) : GMet l yJ2_add_3 (ws_ yJ2_add_3 cJ2_add_3 5 none) ({ frames := 5, cells := 1, slots := 100, locals := 127 } : Room) G [.ref L, .int (iI (j : Int)), .ref e] M (INS G M L lab labE n f j e) 1 100 := by
  obtain ⟨mod, E, hL, ⟨rfl, h0⟩ | ⟨cap, r, hE, h1, h2, h3, h4⟩⟩ := hA
  · exact k_insC l G M L lab mod n hL labE f j e hj hn he hob h0 (fun _ => none) (fun q hq => by omega)
  · by_cases hc : n = cap
    · subst hc
      exact k_insB l G M L lab mod E n hL labE f j e hj hn he hob h2 r hE h4
    · exact k_insA l G M L lab mod E n hL labE f j e hj hn he hob cap r hE (by omega) h4
