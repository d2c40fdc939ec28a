/-! CONSTRUCTORS of alarms, verdicts, cases; verdict -/
set_option maxRecDepth 100000
theorem dfJ2 : ∀ j, j < 3 → defaultValue (tyJ2 j) = vp_V [.int (iI 0), .null, .int (iI 0)] j := by
  intro j hj
  have h : j = 0 ∨ j = 1 ∨ j = 2 := by omega
  rcases h with rfl | rfl | rfl <;> rfl
theorem dfX2 : ∀ j, j < 12 → defaultValue (tyX2 j) = vp_V [.int (iI 0), .int (iI 0), .int (iI 0), .int (iI 0), .int (iI 0), .int (iI 0), .int (iI 0), .int (iI 0), .null, .int (iI 0), .int (iI 0), .int (iI 0)] j := by
  intro j hj
  have h : j = 0 ∨ j = 1 ∨ j = 2 ∨ j = 3 ∨ j = 4 ∨ j = 5 ∨ j = 6 ∨ j = 7 ∨ j = 8 ∨ j = 9 ∨ j = 10 ∨ j = 11 := by omega
  rcases h with rfl | rfl | rfl | rfl | rfl | rfl | rfl | rfl | rfl | rfl | rfl | rfl <;> rfl
theorem dfX3 : ∀ j, j < 2 → defaultValue (tyX3 j) = vp_V [.int (iI 0), .int (iI 0)] j := by
  intro j hj
  have h : j = 0 ∨ j = 1 := by omega
  rcases h with rfl | rfl <;> rfl
theorem dfX4 : ∀ j, j < 3 → defaultValue (tyX4 j) = vp_V [.null, .int (iI 0), .int (iI 0)] j := by
  intro j hj
  have h : j = 0 ∨ j = 1 ∨ j = 2 := by omega
  rcases h with rfl | rfl | rfl <;> rfl
theorem k_Alarm_init (l : Launch) (G : gG) (M : gH) (c : Nat) (lab labV : gL) (hc : M c = some (lab, .inr (1, [.int (iI 0), .int (iI 0), .int (iI 0), .int (iI 0), .int (iI 0), .int (iI 0), .int (iI 0), .int (iI 0), .null, .int (iI 0), .int (iI 0), .int (iI 0)]))) (z1 z2 z3 z4 z5 z6 z7 z8 : Int) (h7 : z7 = 0 ∨ z7 = 1) (h8 : z8 = 0 ∨ z8 = 1) : GMet l yX2_init (ws_ yX2_init cX2_init 9 none) ({ frames := 4, cells := 1, slots := 3, locals := 80 } : Room) G [.ref c, .int (iI z1), .int (iI z2), .int (iI z3), .int (iI z4), .int (iI z5), .int (iI z6), .int (iI z7), .int (iI z8)] M (fun u M' => u = none ∧ ∃ v, M v = none ∧ M' = up (up M v (labV, alc 0 G.2.2.2.1 0)) c (lab, .inr (1, [.int (iI z1), .int (iI z2), .int (iI z3), .int (iI z4), .int (iI z5), .int (iI z6), .int (iI z7), .int (iI z8), .ref v, .int (iI 0), .int (iI z2), .int (iI 0)]))) 1 3 := by
  refine g_start (by decide) (Nat.le_of_ble_eq_true rfl) (fun x hx => ?_)
  refine g_aload_n hx 0 dX2_init_0 rfl rfl ?_
  refine g_objInit hx q204 q51 q52 ⟨Nat.le_of_ble_eq_true rfl, Nat.le_of_ble_eq_true rfl⟩ (Nat.le_of_ble_eq_true rfl) dX2_init_1 ?_
  refine g_aload_n hx 0 dX2_init_4 rfl rfl ?_
  refine g_new hx labV (ci := 4) (C := RJ2) (T := TJ2) (N := 3) (fs := [.int (iI 0), .null, .int (iI 0)]) rfl in_J2 tyJ2_ok q205 q54 q34 dfJ2 (Nat.le_of_ble_eq_true rfl) (Nat.le_of_ble_eq_true rfl) dX2_init_5 (fun v hv hvb => ?_)
  refine g_dup hx dX2_init_8 rfl ?_
  refine g_callI (rest := [.ref v, .ref c]) (na := 0) hx (k_J2_init l G (up M v (labV, al0)) v labV up_s) (lw_meth q57) q34 q206 q56 rfl rfl rfl (by decide +kernel) rfl ⟨Nat.le_of_ble_eq_true rfl, Nat.le_of_ble_eq_true rfl⟩ rfl (Nat.le_of_ble_eq_true rfl) dX2_init_9 ⟨Nat.le_of_ble_eq_true rfl, Nat.le_of_ble_eq_true rfl⟩ (fun v_1 M_2 h_3 => ?_)
  obtain ⟨rfl, rfl⟩ := h_3
  refine g_M up_up ?_
  refine pq224 (fs' := [.int (iI 0), .int (iI 0), .int (iI 0), .int (iI 0), .int (iI 0), .int (iI 0), .int (iI 0), .int (iI 0), .ref v, .int (iI 0), .int (iI 0), .int (iI 0)]) hx rfl rfl dX2_init_12 (up_f hv hc) (Nat.le_of_ble_eq_true rfl) rfl ?_
  refine g_aload_n hx 0 dX2_init_15 rfl rfl ?_
  refine g_iload_n hx 1 dX2_init_16 rfl rfl ?_
  refine pq207 (fs' := [.int (iI z1), .int (iI 0), .int (iI 0), .int (iI 0), .int (iI 0), .int (iI 0), .int (iI 0), .int (iI 0), .ref v, .int (iI 0), .int (iI 0), .int (iI 0)]) hx rfl rfl dX2_init_17 up_s (Nat.le_of_ble_eq_true rfl) rfl ?_
  refine g_M up_up ?_
  refine g_aload_n hx 0 dX2_init_20 rfl rfl ?_
  refine g_iload_n hx 2 dX2_init_21 rfl rfl ?_
  refine pq210 (fs' := [.int (iI z1), .int (iI z2), .int (iI 0), .int (iI 0), .int (iI 0), .int (iI 0), .int (iI 0), .int (iI 0), .ref v, .int (iI 0), .int (iI 0), .int (iI 0)]) hx rfl rfl dX2_init_22 up_s (Nat.le_of_ble_eq_true rfl) rfl ?_
  refine g_M up_up ?_
  refine g_aload_n hx 0 dX2_init_25 rfl rfl ?_
  refine g_iload_n hx 3 dX2_init_26 rfl rfl ?_
  refine pq212 (fs' := [.int (iI z1), .int (iI z2), .int (iI z3), .int (iI 0), .int (iI 0), .int (iI 0), .int (iI 0), .int (iI 0), .ref v, .int (iI 0), .int (iI 0), .int (iI 0)]) hx rfl rfl dX2_init_27 up_s (Nat.le_of_ble_eq_true rfl) rfl ?_
  refine g_M up_up ?_
  refine g_aload_n hx 0 dX2_init_30 rfl rfl ?_
  refine g_iload hx 4 dX2_init_31 rfl ?_
  refine pq214 (fs' := [.int (iI z1), .int (iI z2), .int (iI z3), .int (iI z4), .int (iI 0), .int (iI 0), .int (iI 0), .int (iI 0), .ref v, .int (iI 0), .int (iI 0), .int (iI 0)]) hx rfl rfl dX2_init_33 up_s (Nat.le_of_ble_eq_true rfl) rfl ?_
  refine g_M up_up ?_
  refine g_aload_n hx 0 dX2_init_36 rfl rfl ?_
  refine g_iload hx 5 dX2_init_37 rfl ?_
  refine pq216 (fs' := [.int (iI z1), .int (iI z2), .int (iI z3), .int (iI z4), .int (iI z5), .int (iI 0), .int (iI 0), .int (iI 0), .ref v, .int (iI 0), .int (iI 0), .int (iI 0)]) hx rfl rfl dX2_init_39 up_s (Nat.le_of_ble_eq_true rfl) rfl ?_
  refine g_M up_up ?_
  refine g_aload_n hx 0 dX2_init_42 rfl rfl ?_
  refine g_iload hx 6 dX2_init_43 rfl ?_
  refine pq218 (fs' := [.int (iI z1), .int (iI z2), .int (iI z3), .int (iI z4), .int (iI z5), .int (iI z6), .int (iI 0), .int (iI 0), .ref v, .int (iI 0), .int (iI 0), .int (iI 0)]) hx rfl rfl dX2_init_45 up_s (Nat.le_of_ble_eq_true rfl) rfl ?_
  refine g_M up_up ?_
  refine g_aload_n hx 0 dX2_init_48 rfl rfl ?_
  refine g_iload hx 7 dX2_init_49 rfl ?_
  refine pq220 (fs' := [.int (iI z1), .int (iI z2), .int (iI z3), .int (iI z4), .int (iI z5), .int (iI z6), .int (iI z7), .int (iI 0), .ref v, .int (iI 0), .int (iI 0), .int (iI 0)]) hx rfl rfl h7 dX2_init_51 up_s (Nat.le_of_ble_eq_true rfl) rfl ?_
  refine g_M up_up ?_
  refine g_aload_n hx 0 dX2_init_54 rfl rfl ?_
  refine g_iload hx 8 dX2_init_55 rfl ?_
  refine pq222 (fs' := [.int (iI z1), .int (iI z2), .int (iI z3), .int (iI z4), .int (iI z5), .int (iI z6), .int (iI z7), .int (iI z8), .ref v, .int (iI 0), .int (iI 0), .int (iI 0)]) hx rfl rfl h8 dX2_init_57 up_s (Nat.le_of_ble_eq_true rfl) rfl ?_
  refine g_M up_up ?_
  refine g_aload_n hx 0 dX2_init_60 rfl rfl ?_
  refine g_iload_n hx 2 dX2_init_61 rfl rfl ?_
  refine pq227 (fs' := [.int (iI z1), .int (iI z2), .int (iI z3), .int (iI z4), .int (iI z5), .int (iI z6), .int (iI z7), .int (iI z8), .ref v, .int (iI 0), .int (iI z2), .int (iI 0)]) hx rfl dX2_init_62 up_s (Nat.le_of_ble_eq_true rfl) rfl ?_
  refine g_M up_up ?_
  exact g_vret hx (Nat.le_of_ble_eq_true rfl) (Nat.le_of_ble_eq_true rfl) dX2_init_65 ⟨rfl, v, hv, rfl⟩
theorem k_Verdict_init (l : Launch) (G : gG) (M : gH) (c : Nat) (lab : gL) (hc : M c = some (lab, .inr (3, [.int (iI 0), .int (iI 0)]))) (z1 z2 : Int) (h2 : z2 = 0 ∨ z2 = 1) : GMet l yX3_init (ws_ yX3_init cX3_init 3 none) ({ frames := 1, cells := 0, slots := 0, locals := 20 } : Room) G [.ref c, .int (iI z1), .int (iI z2)] M (fun u M' => u = none ∧ M' = up M c (lab, .inr (3, [.int (iI z1), .int (iI z2)]))) 0 0 := by
  refine g_start (by decide) (Nat.le_of_ble_eq_true rfl) (fun x hx => ?_)
  refine g_aload_n hx 0 dX3_init_0 rfl rfl ?_
  refine g_objInit hx q322 q51 q52 ⟨Nat.le_of_ble_eq_true rfl, Nat.le_of_ble_eq_true rfl⟩ (Nat.le_of_ble_eq_true rfl) dX3_init_1 ?_
  refine g_aload_n hx 0 dX3_init_4 rfl rfl ?_
  refine g_iload_n hx 1 dX3_init_5 rfl rfl ?_
  refine pq323 (fs' := [.int (iI z1), .int (iI 0)]) hx rfl rfl dX3_init_6 hc (Nat.le_of_ble_eq_true rfl) rfl ?_
  refine g_aload_n hx 0 dX3_init_9 rfl rfl ?_
  refine g_iload_n hx 2 dX3_init_10 rfl rfl ?_
  refine pq325 (fs' := [.int (iI z1), .int (iI z2)]) hx rfl rfl h2 dX3_init_11 up_s (Nat.le_of_ble_eq_true rfl) rfl ?_
  refine g_M up_up ?_
  exact g_vret hx (Nat.zero_le _) (Nat.zero_le _) dX3_init_14 ⟨rfl, rfl⟩
theorem k_Case_init (l : Launch) (G : gG) (M : gH) (c : Nat) (lab labV : gL) (hc : M c = some (lab, .inr (2, [.null, .int (iI 0), .int (iI 0)]))) : GMet l yX4_init (ws_ yX4_init cX4_init 1 none) ({ frames := 4, cells := 1, slots := 3, locals := 80 } : Room) G [.ref c] M (fun u M' => u = none ∧ ∃ v, M v = none ∧ M' = up (up M v (labV, alc 0 G.2.2.2.1 0)) c (lab, .inr (2, [.ref v, .int (iI 0), .int (iI 0)]))) 1 3 := by
  refine g_start (by decide) (Nat.le_of_ble_eq_true rfl) (fun x hx => ?_)
  refine g_aload_n hx 0 dX4_init_0 rfl rfl ?_
  refine g_objInit hx q396 q51 q52 ⟨Nat.le_of_ble_eq_true rfl, Nat.le_of_ble_eq_true rfl⟩ (Nat.le_of_ble_eq_true rfl) dX4_init_1 ?_
  refine g_aload_n hx 0 dX4_init_4 rfl rfl ?_
  refine g_new hx labV (ci := 4) (C := RJ2) (T := TJ2) (N := 3) (fs := [.int (iI 0), .null, .int (iI 0)]) rfl in_J2 tyJ2_ok q397 q54 q34 dfJ2 (Nat.le_of_ble_eq_true rfl) (Nat.le_of_ble_eq_true rfl) dX4_init_5 (fun v hv hvb => ?_)
  refine g_dup hx dX4_init_8 rfl ?_
  refine g_callI (rest := [.ref v, .ref c]) (na := 0) hx (k_J2_init l G (up M v (labV, al0)) v labV up_s) (lw_meth q57) q34 q398 q56 rfl rfl rfl (by decide +kernel) rfl ⟨Nat.le_of_ble_eq_true rfl, Nat.le_of_ble_eq_true rfl⟩ rfl (Nat.le_of_ble_eq_true rfl) dX4_init_9 ⟨Nat.le_of_ble_eq_true rfl, Nat.le_of_ble_eq_true rfl⟩ (fun v_1 M_2 h_3 => ?_)
  obtain ⟨rfl, rfl⟩ := h_3
  refine g_M up_up ?_
  refine pq399 (fs' := [.ref v, .int (iI 0), .int (iI 0)]) hx rfl rfl dX4_init_12 (up_f hv hc) (Nat.le_of_ble_eq_true rfl) rfl ?_
  exact g_vret hx (Nat.le_of_ble_eq_true rfl) (Nat.le_of_ble_eq_true rfl) dX4_init_15 ⟨rfl, v, hv, rfl⟩
/-- how many of ten bits are set -/
noncomputable def pop (n : Nat) : Int := cn (fun j => n.testBit j = true) 10
theorem tb_or (a k j : Nat) : (a ||| 2 ^ k).testBit j = true ↔ a.testBit j = true ∨ j = k := by
  rw [Nat.testBit_or, Bool.or_eq_true, Nat.testBit_two_pow]
  simp only [decide_eq_true_eq]
  exact ⟨fun h => h.imp id Eq.symm, fun h => h.imp id Eq.symm⟩
theorem msk_tb (lk : Nat → Nat) (vb : Nat → Int) (b : Int) (n j : Nat) : (msk lk vb b n).testBit j = true ↔ ∃ q, q < n ∧ vb q = b ∧ lk q = j := by
  induction n with
  | zero => simp [msk]
  | succ n ih =>
    by_cases h : vb n = b
    · simp only [msk, if_pos h]
      rw [tb_or, ih]
      constructor
      · rintro (⟨q, h1, h2⟩ | h1)
        · exact ⟨q, by omega, h2⟩
        · exact ⟨n, by omega, h, h1.symm⟩
      · rintro ⟨q, h1, h2, h3⟩
        by_cases e : q = n
        · subst e; exact Or.inr h3.symm
        · exact Or.inl ⟨q, by omega, h2, h3⟩
    · simp only [msk, if_neg h]
      rw [ih]
      constructor
      · rintro ⟨q, h1, h2⟩
        exact ⟨q, by omega, h2⟩
      · rintro ⟨q, h1, h2, h3⟩
        by_cases e : q = n
        · subst e; exact absurd h2 h
        · exact ⟨q, by omega, h2, h3⟩
theorem pop_0 : pop 0 = 0 := cn_0 _ (fun i _ => by simp)
/-- counting with one place more -/
theorem cn_plus {P P' : Nat → Prop} {m : Nat} (n : Nat) (h : ∀ i, P' i ↔ P i ∨ i = m) (hm : ¬ P m) : cn P' n = cn P n + bz (m < n) := by
  induction n with
  | zero => simp only [cn]; rw [bz_f (by omega)]; rfl
  | succ n ih =>
    simp only [cn]
    rw [ih]
    by_cases e : n = m
    · subst e
      rw [bz_t (show P' n from (h n).mpr (Or.inr rfl)), bz_f hm, bz_f (show ¬ n < n by omega), bz_t (show n < n + 1 by omega)]
    · have e1 : bz (P' n) = bz (P n) := bz_c ⟨fun z => ((h n).mp z).elim id (fun q => absurd q e), fun z => (h n).mpr (Or.inl z)⟩
      have e2 : bz (m < n) = bz (m < n + 1) := bz_c (by omega)
      rw [e1, e2, Int.add_right_comm]
theorem pop_or {a k : Nat} (hk : k < 10) (h : ¬ a.testBit k = true) : pop (a ||| 2 ^ k) = pop a + 1 := by
  unfold pop
  rw [cn_plus (P := fun j => a.testBit j = true) (m := k) 10 (fun i => tb_or a k i) h, bz_t hk]
theorem pop_msk (lk : Nat → Nat) (vb : Nat → Int) (b : Int) (n : Nat) (hl : ∀ j, j < n → lk j < 10) (hi : ∀ j j', j < n → j' < n → lk j = lk j' → j = j') : pop (msk lk vb b n) = cn (fun q => vb q = b) n := by
  induction n with
  | zero => exact pop_0
  | succ n ih =>
    have ih := ih (fun j hj => hl j (by omega)) (fun j j' h1 h2 => hi j j' (by omega) (by omega))
    simp only [cn]
    by_cases h : vb n = b
    · rw [bz_t h]
      simp only [msk, if_pos h]
      rw [pop_or (hl n (by omega)) ?_, ih]
      intro hz
      obtain ⟨q, h1, h2, h3⟩ := (msk_tb lk vb b n (lk n)).mp hz
      have := hi q n (by omega) (by omega) h3
      omega
    · rw [bz_f h]
      simp only [msk, if_neg h]
      omega
theorem msk_c {lk lk' : Nat → Nat} {vb vb' : Nat → Int} (b : Int) (n : Nat) (h : ∀ j, j < n → lk' j = lk j ∧ vb' j = vb j) : msk lk' vb' b n = msk lk vb b n := by
  induction n with
  | zero => rfl
  | succ n ih =>
    have h1 := h n (by omega)
    simp only [msk]
    rw [ih (fun j hj => h j (by omega)), h1.1, h1.2]
theorem msk_lt (lk : Nat → Nat) (vb : Nat → Int) (b : Int) (n : Nat) (hl : ∀ j, j < n → lk j < 10) : msk lk vb b n < 1024 := by
  induction n with
  | zero => simp [msk]
  | succ n ih =>
    have ih := ih (fun j hj => hl j (by omega))
    simp only [msk]
    split
    · have h2 : 2 ^ lk n < 2 ^ 10 := Nat.pow_lt_pow_right (by omega) (hl n (by omega))
      have := Nat.or_lt_two_pow (n := 10) (x := msk lk vb b n) (y := 2 ^ lk n) ih h2
      exact this
    · exact ih
/-- verdict(alarm, looker, is): whether it is taken; the mask it adds to -/
def verOk (σ : sT) (N : Nat) (a b : Int) : Prop := (0 ≤ a ∧ a < N) ∧ (0 ≤ b ∧ b ≤ 9) ∧ σ 10 a.toNat = 0 ∧ ¬ ((σ 11 a.toNat).toNat.testBit b.toNat = true) ∧ ¬ ((σ 12 a.toNat).toNat.testBit b.toNat = true)
def verM (σ : sT) (a b c : Int) : Nat := (if c = 1 then (σ 11 a.toNat).toNat else (σ 12 a.toNat).toNat) ||| 2 ^ b.toNat
def verS (σ : sT) (a b c : Int) : sT := su σ (if c = 1 then 11 else 12) a.toNat (verM σ a b c : Int)
noncomputable def verR (σ : sT) (N : Nat) (a b c : Int) : Int := @ite Int (verOk σ N a b) (Classical.propDecidable _) (if pop (verM σ a b c) < 2 then 0 else 1) (-1)
noncomputable def verT (σ : sT) (N : Nat) (a b c : Int) : sT := @ite sT (verOk σ N a b) (Classical.propDecidable _) (if pop (verM σ a b c) < 2 then verS σ a b c else su (verS σ a b c) 10 a.toNat (if c = 1 then 1 else 2)) σ
