/-! THE CLASS: alarm -/
set_option maxRecDepth 100000
/-- the last place with P below k, or -1 -/
noncomputable def la (P : Nat → Prop) : Nat → Int
  | 0 => -1
  | k + 1 => @ite Int (P k) (Classical.propDecidable _) (k : Int) (la P k)
theorem la_at {P : Nat → Prop} {k N : Nat} (hk : k < N) (hp : P k) (h : ∀ q, k < q → q < N → ¬ P q) : la P N = (k : Int) := by
  induction N with
  | zero => omega
  | succ N ih =>
    simp only [la]
    by_cases e : k = N
    · subst e; rw [if_pos hp]
    · rw [if_neg (h N (by omega) (by omega))]
      exact ih (by omega) (fun q h1 h2 => h q h1 (by omega))
theorem la_no {P : Nat → Prop} (N : Nat) (h : ∀ q, q < N → ¬ P q) : la P N = -1 := by
  induction N with
  | zero => rfl
  | succ N ih =>
    simp only [la]
    rw [if_neg (h N (by omega))]
    exact ih (fun q hq => h q (by omega))
theorem la_cases (P : Nat → Prop) (N : Nat) : (la P N = -1 ∧ ∀ q, q < N → ¬ P q) ∨ ∃ k, k < N ∧ la P N = (k : Int) ∧ P k := by
  induction N with
  | zero => exact Or.inl ⟨rfl, fun q hq => by omega⟩
  | succ N ih =>
    by_cases p : P N
    · exact Or.inr ⟨N, by omega, la_at (by omega) p (fun q h1 h2 => by omega), p⟩
    · simp only [la]
      rw [if_neg p]
      rcases ih with ⟨h1, h2⟩ | ⟨k, h1, h2, h3⟩
      · refine Or.inl ⟨h1, fun q hq => ?_⟩
        by_cases e : q = N
        · subst e; exact p
        · exact h2 q (by omega)
      · exact Or.inr ⟨k, by omega, h2, h3⟩
def alOk (s t m w : Int) : Prop := (0 ≤ s ∧ s ≤ 9) ∧ (0 ≤ t ∧ t ≤ 39) ∧ (0 ≤ m ∧ m ≤ 4095) ∧ (1 ≤ w ∧ w ≤ 100)
def alP (σ : sT) (s t m : Int) (k : Nat) : Prop := (σ 2 k = s ∧ σ 3 k = t ∧ σ 4 k = m) ∧ wtg σ k ∧ σ 0 0 - σ 9 k ≤ 10
/-- the state with an alarm more -/
def newA (σ : sT) (N : Nat) (s t m w sl cp : Int) : sT := fun p q => if q = N then (if p = 1 then σ 0 0 else if p = 2 then s else if p = 3 then t else if p = 4 then m else if p = 5 then w else if p = 6 then sl else if p = 7 then cp else if p = 8 then 0 else if p = 9 then σ 0 0 else if p = 10 then 0 else if p = 11 then 0 else if p = 12 then 0 else σ p q) else σ p q
theorem newA_n {σ : sT} {N : Nat} {s t m w sl cp : Int} {p q : Nat} (h : q ≠ N ∨ p = 0 ∨ 12 < p) : newA σ N s t m w sl cp p q = σ p q := by
  unfold newA
  by_cases e : q = N
  · rw [if_pos e]
    repeat rw [if_neg (by omega)]
  · rw [if_neg e]
theorem newA_k {σ : sT} {N : Nat} {s t m w sl cp : Int} {p : Nat} (h : p = 0 ∨ 12 < p) : newA σ N s t m w sl cp p = σ p := by
  funext q
  exact newA_n (Or.inr h)
noncomputable def alR (σ : sT) (N : Nat) (s t m w : Int) : Int := @ite Int (alOk s t m w) (Classical.propDecidable _) (if 0 ≤ la (alP σ s t m) N then la (alP σ s t m) N else (N : Int)) (-2)
noncomputable def alT (σ : sT) (N : Nat) (s t m w : Int) : sT := @ite sT (alOk s t m w) (Classical.propDecidable _) (if 0 ≤ la (alP σ s t m) N then su (su σ 8 (la (alP σ s t m) N).toNat (σ 8 (la (alP σ s t m) N).toNat + 1)) 9 (la (alP σ s t m) N).toNat (σ 0 0) else newA σ N s t m w (bz (sil σ s)) (bz (¬ sil σ s ∧ ovr σ N s))) σ
noncomputable def alN (σ : sT) (N : Nat) (s t m w : Int) : Nat := @ite Nat (alOk s t m w) (Classical.propDecidable _) (if 0 ≤ la (alP σ s t m) N then N else N + 1) N
theorem AL.cg {G : gG} {M : gH} {L : Nat} {lab labE : gL} {n : Nat} {f f' : Nat → Nat} (h : AL G M L lab labE n f) (e : ∀ j, j < n → f' j = f j) : AL G M L lab labE n f' := by
  obtain ⟨mod, E, hL, h⟩ := h
  refine ⟨mod, E, hL, ?_⟩
  rcases h with h | ⟨cap, r, h1, h2, h3, h4, h5⟩
  · exact Or.inl h
  · exact Or.inr ⟨cap, r, h1, h2, h3, h4, fun j hj => by rw [e j hj]; exact h5 j hj⟩
theorem RC.push {G : gG} {g : gA2} {M M' : gH} {σ : sT} {N : Nat} {lf : Int} {c v : Nat} {s t m w sl cp : Int} (h : RC G g M σ N lf) (hf : Fr (fun z => z = (1, 0) ∨ z = (1, 1)) M M') (hA : AL G M' (g 1 0) (1, 0) (1, 1) (N + 1) (fun j => if j = N then c else g 10 j)) (hc : M' c = some ((10, N), .inr (1, [.int (iI (N : Int)), .int (iI (σ 0 0)), .int (iI s), .int (iI t), .int (iI m), .int (iI w), .int (iI sl), .int (iI cp), .ref v, .int (iI 0), .int (iI (σ 0 0)), .int (iI 0)]))) (hv : M' v = some ((11, N), alc 0 G.2.2.2.1 0)) : RC G (gu (gu g 10 N c) 11 N v) M' (newA σ N s t m w sl cp) (N + 1) lf := by
  have hg : ∀ p q, p ≠ 10 → p ≠ 11 → gu (gu g 10 N c) 11 N v p q = g p q := fun p q h1 h2 => by rw [gu_n (by omega), gu_n (by omega)]
  have h11 : ∀ q, q ≠ N → gu (gu g 10 N c) 11 N v 11 q = g 11 q := fun q h1 => by rw [gu_n (by omega), gu_n (by omega)]
  have h10 : ∀ q, gu (gu g 10 N c) 11 N v 10 q = if q = N then c else g 10 q := fun q => by
    rw [gu_n (by omega)]
    by_cases e : q = N
    · subst e; rw [gu_s, if_pos rfl]
    · rw [gu_n (by omega), if_neg e]
  have hn : gu (gu g 10 N c) 11 N v 11 N = v := gu_s
  obtain ⟨h0, ⟨a1, a2, a3, a4, a5, a6, a7, a8, a9⟩, b1, ⟨cf, b2⟩, b3, b4, b5, b6⟩ := h
  have k0 : newA σ N s t m w sl cp 0 = σ 0 := newA_k (Or.inl rfl)
  refine ⟨?_, ⟨?_, fun i hi => ?_, fun i hi => ?_, ?_, ?_, ?_, ?_, ?_, ?_⟩, ?_, ⟨cf, ?_⟩, ?_, ?_, ?_, fun i hi => ?_⟩
  · rw [hg 0 0 (by omega) (by omega), hf _ _ h0 (by simp)]
    simp only [cryF, k0]
    rw [hg 1 0, hg 2 0, hg 3 0, hg 4 0, hg 5 0, hg 6 0, hg 7 0, hg 20 0, hg 21 0, hg 22 0, hg 23 0, hg 24 0] <;> omega
  · rw [hg 1 0 (by omega) (by omega)]
    exact hA.cg (fun j hj => h10 j)
  · rw [h10]
    by_cases e : i = N
    · subst e
      rw [if_pos rfl, hc]
      simp only [alF, hn]
      simp [newA]
    · rw [if_neg e, hf _ _ (a2 i (by omega)) (by simp)]
      simp only [alF, h11 i e, newA_n (Or.inl e)]
  · by_cases e : i = N
    · subst e
      exact ⟨0, fun _ => 0, fun _ => 0, fun _ => 0, ⟨0, _, by rw [hn]; exact hv, Or.inl ⟨rfl, rfl⟩⟩, fun j hj => by omega, fun j hj => by omega, fun j j' hj => by omega, by simp [newA, msk], by simp [newA, msk]⟩
    · obtain ⟨nv, va, lk, vb, v1, v2, v3, v4, v5, v6⟩ := a3 i (by omega)
      exact ⟨nv, va, lk, vb, by rw [h11 i e]; exact v1.fr hf (by simp) (by simp), fun j hj => hf _ _ (v2 j hj) (by simp), v3, v4, by rw [newA_n (Or.inl e)]; exact v5, by rw [newA_n (Or.inl e)]; exact v6⟩
  · rw [hg 2 0 (by omega) (by omega), newA_k (Or.inr (by omega))]; exact hf _ _ a4 (by simp)
  · rw [hg 3 0 (by omega) (by omega), newA_k (Or.inr (by omega))]; exact hf _ _ a5 (by simp)
  · rw [hg 4 0 (by omega) (by omega), newA_k (Or.inr (by omega))]; exact hf _ _ a6 (by simp)
  · rw [hg 5 0 (by omega) (by omega), newA_k (Or.inr (by omega))]; exact hf _ _ a7 (by simp)
  · rw [hg 6 0 (by omega) (by omega), newA_k (Or.inr (by omega))]; exact hf _ _ a8 (by simp)
  · rw [hg 7 0 (by omega) (by omega), newA_k (Or.inr (by omega))]; exact hf _ _ a9 (by simp)
  · rw [hg 20 0 (by omega) (by omega)]; exact b1.fr hf (by simp) (by simp)
  · rw [hg 21 0 (by omega) (by omega)]; exact hf _ _ b2 (by simp)
  · rw [hg 22 0 (by omega) (by omega)]; exact b3.fr hf (by simp) (by simp)
  · rw [hg 23 0 (by omega) (by omega)]; exact b4.fr hf (by simp) (by simp)
  · rw [hg 24 0 (by omega) (by omega), hf _ _ b5 (by simp)]
    congr 5
  · rw [hg 25 i (by omega) (by omega)]
    obtain ⟨row, hr⟩ := b6 i hi
    exact ⟨row, hf _ _ hr (by simp)⟩
theorem kc_alarm (l : Launch) (G : gG) (g : gA2) (M : gH) (σ : sT) (N : Nat) (lf : Int) (B : Nat) (hI : Iv σ N B) (hR : RC G g M σ N lf) (hNB : N < 64) (a b c d : Int) (ha : -2147483648 ≤ a ∧ a ≤ 2147483647) (hb : -2147483648 ≤ b ∧ b ≤ 2147483647) (hc : -2147483648 ≤ c ∧ c ≤ 2147483647) (hd : -2147483648 ≤ d ∧ d ≤ 2147483647) : GMet l yX0_alarm (ws_ yX0_alarm cX0_alarm 7 (some .int)) ({ frames := 7, cells := 3, slots := 120, locals := 171 } : Room) G [.ref (g 0 0), .int (iI a), .int (iI b), .int (iI c), .int (iI d)] M (MC G M (g 0 0) (alR σ N a b c d) (alT σ N a b c d) (alN σ N a b c d)) 3 120 := by
  refine g_start (by decide) (Nat.le_of_ble_eq_true rfl) (fun x hx => ?_)
  have hb0 := hI.1
  refine g_iload_n hx 1 dX0_alarm_0 rfl rfl ?_
  refine g_iconst hx dX0_alarm_1 ?_
  refine g_bipush hx dX0_alarm_2 (by decide) ?_
  refine g_pcallS (rest := []) (na := 3) hx (k_isIn l G M a 0 9 (by omega) (by omega) (by omega)) (lw_S q145 q146 q31 q147) rfl rfl (by decide +kernel) rfl ⟨Nat.le_of_ble_eq_true rfl, Nat.le_of_ble_eq_true rfl⟩ rfl (Nat.le_of_ble_eq_true rfl) dX0_alarm_4 ⟨Nat.zero_le _, Nat.zero_le _⟩ ?_
  refine g_if_eqP hx 42 dX0_alarm_7 (by decide) (fun c_7 => ?_) (fun c_7 => ?_)
  ·
    refine g_bipush hx dX0_alarm_42 (by decide) ?_
    exact g_iret hx (Nat.le_of_ble_eq_true rfl) (Nat.le_of_ble_eq_true rfl) dX0_alarm_44 ⟨congrArg (fun z => some (Value.int (iI z))) (by unfold alR; rw [if_neg (by unfold alOk; omega)]), ⟨g, lf, rfl, by unfold alT alN; rw [if_neg (by unfold alOk; omega), if_neg (by unfold alOk; omega)]; exact hR⟩, Fr.rf⟩
  ·
    refine g_iload_n hx 2 dX0_alarm_10 rfl rfl ?_
    refine g_iconst hx dX0_alarm_11 ?_
    refine g_bipush hx dX0_alarm_12 (by decide) ?_
    refine g_pcallS (rest := []) (na := 3) hx (k_isIn l G M b 0 39 (by omega) (by omega) (by omega)) (lw_S q145 q146 q31 q147) rfl rfl (by decide +kernel) rfl ⟨Nat.le_of_ble_eq_true rfl, Nat.le_of_ble_eq_true rfl⟩ rfl (Nat.le_of_ble_eq_true rfl) dX0_alarm_14 ⟨Nat.zero_le _, Nat.zero_le _⟩ ?_
    refine g_if_eqP hx 42 dX0_alarm_17 (by decide) (fun c_17 => ?_) (fun c_17 => ?_)
    ·
      refine g_bipush hx dX0_alarm_42 (by decide) ?_
      exact g_iret hx (Nat.le_of_ble_eq_true rfl) (Nat.le_of_ble_eq_true rfl) dX0_alarm_44 ⟨congrArg (fun z => some (Value.int (iI z))) (by unfold alR; rw [if_neg (by unfold alOk; omega)]), ⟨g, lf, rfl, by unfold alT alN; rw [if_neg (by unfold alOk; omega), if_neg (by unfold alOk; omega)]; exact hR⟩, Fr.rf⟩
    ·
      refine g_iload_n hx 3 dX0_alarm_20 rfl rfl ?_
      refine g_iconst hx dX0_alarm_21 ?_
      refine g_sipush hx dX0_alarm_22 (by decide) ?_
      refine g_pcallS (rest := []) (na := 3) hx (k_isIn l G M c 0 4095 (by omega) (by omega) (by omega)) (lw_S q145 q146 q31 q147) rfl rfl (by decide +kernel) rfl ⟨Nat.le_of_ble_eq_true rfl, Nat.le_of_ble_eq_true rfl⟩ rfl (Nat.le_of_ble_eq_true rfl) dX0_alarm_25 ⟨Nat.zero_le _, Nat.zero_le _⟩ ?_
      refine g_if_eqP hx 42 dX0_alarm_28 (by decide) (fun c_28 => ?_) (fun c_28 => ?_)
      ·
        refine g_bipush hx dX0_alarm_42 (by decide) ?_
        exact g_iret hx (Nat.le_of_ble_eq_true rfl) (Nat.le_of_ble_eq_true rfl) dX0_alarm_44 ⟨congrArg (fun z => some (Value.int (iI z))) (by unfold alR; rw [if_neg (by unfold alOk; omega)]), ⟨g, lf, rfl, by unfold alT alN; rw [if_neg (by unfold alOk; omega), if_neg (by unfold alOk; omega)]; exact hR⟩, Fr.rf⟩
      ·
        refine g_iload hx 4 dX0_alarm_31 rfl ?_
        refine g_iconst hx dX0_alarm_33 ?_
        refine g_bipush hx dX0_alarm_34 (by decide) ?_
        refine g_pcallS (rest := []) (na := 3) hx (k_isIn l G M d 1 100 (by omega) (by omega) (by omega)) (lw_S q145 q146 q31 q147) rfl rfl (by decide +kernel) rfl ⟨Nat.le_of_ble_eq_true rfl, Nat.le_of_ble_eq_true rfl⟩ rfl (Nat.le_of_ble_eq_true rfl) dX0_alarm_36 ⟨Nat.zero_le _, Nat.zero_le _⟩ ?_
        refine g_if_neP hx 45 dX0_alarm_39 (by decide) (fun c_39 => ?_) (fun c_39 => ?_)
        ·
          refine g_aload_n hx 0 dX0_alarm_45 rfl rfl ?_
          refine gq85 (v := .ref (g 1 0)) hx rfl dX0_alarm_46 hR.o rfl ?_
          refine g_pcallV (rest := []) (na := 0) hx (k_size l G M (g 1 0) (1, 0) (1, 1) N (g 10) hR.ls) ((al_cell hR.ls).choose_spec.choose_spec) rfl (lw_V q160 q161 q162 q34 q163) rfl rfl (by decide +kernel) rfl ⟨Nat.le_of_ble_eq_true rfl, Nat.le_of_ble_eq_true rfl⟩ rfl (Nat.le_of_ble_eq_true rfl) dX0_alarm_49 ⟨Nat.zero_le _, Nat.zero_le _⟩ ?_
          refine g_iconst hx dX0_alarm_52 ?_
          refine g_isub hx dX0_alarm_53 ?_
          refine g_istore (lv' := [(5, .int (iI ((N : Int) - 1))), (0, .ref (g 0 0)), (1, .int (iI a)), (2, .int (iI b)), (3, .int (iI c)), (4, .int (iI d))]) hx dX0_alarm_54 (by decide) rfl ?_
          have lp : ∀ j : Nat, j ≤ N → (∀ z : Nat, j ≤ z → z < N → ¬ alP σ a b c z) → GW x (gQx x (MC G M (g 0 0) (alR σ N a b c d) (alT σ N a b c d) (alN σ N a b c d)) 3 120) M 0 0 56 [(5, .int (iI ((j : Int) - 1))), (0, .ref (g 0 0)), (1, .int (iI a)), (2, .int (iI b)), (3, .int (iI c)), (4, .int (iI d))] [] := by
            refine upw (P := fun j => j ≤ N → (∀ z : Nat, j ≤ z → z < N → ¬ alP σ a b c z) → GW x (gQx x (MC G M (g 0 0) (alR σ N a b c d) (alT σ N a b c d) (alN σ N a b c d)) 3 120) M 0 0 56 [(5, .int (iI ((j : Int) - 1))), (0, .ref (g 0 0)), (1, .int (iI a)), (2, .int (iI b)), (3, .int (iI c)), (4, .int (iI d))] []) (fun j ih hj hyp => ?_)
            refine g_iload hx 0 dX0_alarm_56 rfl ?_
            refine g_if_lt hx 141 (by omega) dX0_alarm_58 (by decide) (fun c_58 => ?_) (fun c_58 => ?_)
            ·
              refine g_aload_n hx 1 dX0_alarm_141 rfl rfl ?_
              refine gq85 (v := .ref (g 1 0)) hx rfl dX0_alarm_142 hR.o rfl ?_
              refine g_pcallV (rest := []) (na := 0) hx (k_size l G M (g 1 0) (1, 0) (1, 1) N (g 10) hR.ls) ((al_cell hR.ls).choose_spec.choose_spec) rfl (lw_V q160 q161 q162 q34 q163) rfl rfl (by decide +kernel) rfl ⟨Nat.le_of_ble_eq_true rfl, Nat.le_of_ble_eq_true rfl⟩ rfl (Nat.le_of_ble_eq_true rfl) dX0_alarm_145 ⟨Nat.zero_le _, Nat.zero_le _⟩ ?_
              refine g_sipush hx dX0_alarm_148 (by decide) ?_
              refine g_icmp_ne hx 157 (by omega) (by omega) dX0_alarm_151 (by decide) (fun c_151 => ?_) (fun c_151 => ?_)
              ·
                refine g_aload_n hx 1 dX0_alarm_157 rfl rfl ?_
                refine g_iload_n hx 2 dX0_alarm_158 rfl rfl ?_
                refine g_pcallV (rest := []) (na := 1) hx (k_isSilent l G g M σ N lf B hI hR a (by omega)) hR.o rfl (lw_V q191 q193 qs0 q31 q194) rfl rfl (by decide +kernel) rfl ⟨Nat.le_of_ble_eq_true rfl, Nat.le_of_ble_eq_true rfl⟩ rfl (Nat.le_of_ble_eq_true rfl) dX0_alarm_159 ⟨Nat.zero_le _, Nat.zero_le _⟩ ?_
                refine g_istore (lv' := [(5, .int (iI (bz (sil σ a)))), (0, .ref (g 0 0)), (1, .int (iI a)), (2, .int (iI b)), (3, .int (iI c)), (4, .int (iI d))]) hx dX0_alarm_162 (by decide) rfl ?_
                refine g_aload_n hx 1 dX0_alarm_164 rfl rfl ?_
                refine gq85 (v := .ref (g 1 0)) hx rfl dX0_alarm_165 hR.o rfl ?_
                have hno : la (alP σ a b c) N = -1 := la_no N (fun z hz => hyp z (by omega) hz)
                refine g_new hx (10, N) (ci := 1) (C := RX2) (T := TX2) (N := 12) (fs := [.int (iI 0), .int (iI 0), .int (iI 0), .int (iI 0), .int (iI 0), .int (iI 0), .int (iI 0), .int (iI 0), .null, .int (iI 0), .int (iI 0), .int (iI 0)]) rfl in_X2 tyX2_ok q178 q195 q38 dfX2 (Nat.le_of_ble_eq_true rfl) (Nat.le_of_ble_eq_true rfl) dX0_alarm_168 (fun c1 hc1 hcb => ?_)
                obtain ⟨M_1, e_2⟩ : ∃ M1 : gH, M1 = up M c1 ((10, N), .inr (1, [.int (iI 0), .int (iI 0), .int (iI 0), .int (iI 0), .int (iI 0), .int (iI 0), .int (iI 0), .int (iI 0), .null, .int (iI 0), .int (iI 0), .int (iI 0)])) := ⟨_, rfl⟩
                refine g_M e_2.symm ?_
                have hR1 : RC G g M_1 σ N lf := hR.fr0 (by rw [e_2]; exact Fr.new hc1)
                have hc2 : M_1 c1 = some ((10, N), .inr (1, [.int (iI 0), .int (iI 0), .int (iI 0), .int (iI 0), .int (iI 0), .int (iI 0), .int (iI 0), .int (iI 0), .null, .int (iI 0), .int (iI 0), .int (iI 0)])) := by rw [e_2]; exact up_s
                have hF1 : Fr (fun z => z.1 < 50) M M_1 := by rw [e_2]; exact Fr.new hc1
                refine g_dup hx dX0_alarm_171 rfl ?_
                refine g_aload_n hx 1 dX0_alarm_172 rfl rfl ?_
                refine gq85 (v := .ref (g 1 0)) hx rfl dX0_alarm_173 hR1.o rfl ?_
                refine g_pcallV (rest := [.ref c1, .ref c1, .ref (g 1 0)]) (na := 0) hx (k_size l G M_1 (g 1 0) (1, 0) (1, 1) N (g 10) hR1.ls) ((al_cell hR1.ls).choose_spec.choose_spec) rfl (lw_V q160 q161 q162 q34 q163) rfl rfl (by decide +kernel) rfl ⟨Nat.le_of_ble_eq_true rfl, Nat.le_of_ble_eq_true rfl⟩ rfl (Nat.le_of_ble_eq_true rfl) dX0_alarm_176 ⟨Nat.le_of_ble_eq_true rfl, Nat.le_of_ble_eq_true rfl⟩ ?_
                refine g_aload_n hx 1 dX0_alarm_179 rfl rfl ?_
                refine gq81 (v := .int (iI (σ 0 0))) hx rfl dX0_alarm_180 hR1.o rfl ?_
                refine g_iload_n hx 2 dX0_alarm_183 rfl rfl ?_
                refine g_iload_n hx 3 dX0_alarm_184 rfl rfl ?_
                refine g_iload_n hx 4 dX0_alarm_185 rfl rfl ?_
                refine g_iload hx 5 dX0_alarm_186 rfl ?_
                refine g_iload hx 0 dX0_alarm_188 rfl ?_
                refine g_iload hx 0 dX0_alarm_190 rfl ?_
                refine g_if_neP hx 207 dX0_alarm_192 (by decide) (fun c_192 => ?_) (fun c_192 => ?_)
                ·
                  refine g_iconst hx dX0_alarm_207 ?_
                  refine g_callI (rest := [.ref c1, .ref (g 1 0)]) (na := 8) hx (k_Alarm_init l G M_1 c1 (10, N) (11, N) hc2 (N : Int) (σ 0 0) a b c d (bz (sil σ a)) 0 (bz_or _) (by omega)) (lw_meth q203) q38 q201 q202 rfl rfl rfl (by decide +kernel) rfl ⟨Nat.le_of_ble_eq_true rfl, Nat.le_of_ble_eq_true rfl⟩ rfl (Nat.le_of_ble_eq_true rfl) dX0_alarm_208 ⟨Nat.le_of_ble_eq_true rfl, Nat.le_of_ble_eq_true rfl⟩ (fun v_3 M_4 h_5 => ?_)
                  obtain ⟨rfl, u, hu, rfl⟩ := h_5
                  obtain ⟨M_6, e_7⟩ : ∃ M1 : gH, M1 = up (up M_1 u ((11, N), alc 0 G.2.2.2.1 0)) c1 ((10, N), .inr (1, [.int (iI (N : Int)), .int (iI (σ 0 0)), .int (iI a), .int (iI b), .int (iI c), .int (iI d), .int (iI (bz (sil σ a))), .int (iI 0), .ref u, .int (iI 0), .int (iI (σ 0 0)), .int (iI 0)])) := ⟨_, rfl⟩
                  refine g_M e_7.symm ?_
                  have hcu : up M_1 u ((11, N), alc 0 G.2.2.2.1 0) c1 = some ((10, N), .inr (1, [.int (iI 0), .int (iI 0), .int (iI 0), .int (iI 0), .int (iI 0), .int (iI 0), .int (iI 0), .int (iI 0), .null, .int (iI 0), .int (iI 0), .int (iI 0)])) := up_f hu hc2
                  have hc3 : M_6 c1 = some ((10, N), .inr (1, [.int (iI (N : Int)), .int (iI (σ 0 0)), .int (iI a), .int (iI b), .int (iI c), .int (iI d), .int (iI (bz (sil σ a))), .int (iI 0), .ref u, .int (iI 0), .int (iI (σ 0 0)), .int (iI 0)])) := by rw [e_7]; exact up_s
                  have hu3 : M_6 u = some ((11, N), alc 0 G.2.2.2.1 0) := by rw [e_7]; exact up_l hcu up_s (by simp)
                  have hf0 : ∀ y q, M y = some q → M_6 y = some q := fun y q hq => by
                    have h1 : M_1 y = some q := by rw [e_2]; exact up_f hc1 hq
                    rw [e_7, up_n (fun hz => by subst hz; rw [hc1] at hq; cases hq)]
                    exact up_f hu h1
                  have hR2 : RC G g M_6 σ N lf := hR.fr0 (fun y q hq _ => hf0 y q hq)
                  have hF2 : Fr (fun z => z.1 < 50) M M_6 := fun y q hq _ => hf0 y q hq
                  refine g_callV (rest := []) (na := 1) hx (k_add l G M_6 (g 1 0) (1, 0) (1, 1) N (g 10) c1 hR2.ls (by omega) ⟨_, _, _, hc3, by decide, by decide⟩ (fun j hj => ⟨_, _, _, hR2.al hj, by decide, by decide⟩)) ((al_cell hR2.ls).choose_spec.choose_spec) rfl (lw_V q256 q257 q258 q34 q259) rfl rfl (by decide +kernel) rfl ⟨Nat.le_of_ble_eq_true rfl, Nat.le_of_ble_eq_true rfl⟩ rfl (Nat.le_of_ble_eq_true rfl) dX0_alarm_211 ⟨Nat.le_of_ble_eq_true rfl, Nat.le_of_ble_eq_true rfl⟩ (fun v_8 M_9 h_10 => ?_)
                  obtain ⟨rfl, hA3, hf3⟩ := h_10
                  have hR3 := hR2.push hf3 hA3 (hf3 _ _ hc3 (by simp)) (hf3 _ _ hu3 (by simp))
                  have hF3 : Fr (fun z => z.1 < 50) M M_9 := hF2.tr (hf3.mono (fun z hz => by rcases hz with hz | hz <;> rw [hz] <;> simp))
                  have ho3 : M_9 (g 0 0) = some ((0, 0), .inr (0, cryF g σ lf)) := hf3 _ _ hR2.o (by simp)
                  refine g_pop hx dX0_alarm_214 rfl ?_
                  refine g_aload_n hx 1 dX0_alarm_215 rfl rfl ?_
                  refine gq85 (v := .ref (g 1 0)) hx rfl dX0_alarm_216 ho3 rfl ?_
                  refine g_pcallV (rest := []) (na := 0) hx (k_size l G M_9 (g 1 0) (1, 0) (1, 1) (N + 1 : Nat) (fun j => if j = N then c1 else g 10 j) hA3) ((al_cell hA3).choose_spec.choose_spec) rfl (lw_V q160 q161 q162 q34 q163) rfl rfl (by decide +kernel) rfl ⟨Nat.le_of_ble_eq_true rfl, Nat.le_of_ble_eq_true rfl⟩ rfl (Nat.le_of_ble_eq_true rfl) dX0_alarm_219 ⟨Nat.le_of_ble_eq_true rfl, Nat.le_of_ble_eq_true rfl⟩ ?_
                  refine g_iconst hx dX0_alarm_222 ?_
                  refine g_isub hx dX0_alarm_223 ?_
                  have hok : alOk a b c d := by unfold alOk; omega
                  have hcp : bz (¬ sil σ a ∧ ovr σ N a) = 0 := bz_f (fun h => by have h1 := h.1; have h2 := h.2; first | (exact absurd h2 (by assumption)) | (exact h1 (by assumption)))
                  exact g_iret hx (Nat.le_of_ble_eq_true rfl) (Nat.le_of_ble_eq_true rfl) dX0_alarm_224 ⟨congrArg (fun z => some (Value.int (iI z))) (by unfold alR; rw [if_pos hok, hno, if_neg (by omega)]; omega), ⟨gu (gu g 10 N c1) 11 N u, lf, by rw [gu_n (by omega), gu_n (by omega)], by unfold alT alN; rw [if_pos hok, if_pos hok, hno, if_neg (by omega), if_neg (by omega), hcp]; exact hR3⟩, hF3⟩
                ·
                  refine g_aload_n hx 1 dX0_alarm_195 rfl rfl ?_
                  refine g_iload_n hx 2 dX0_alarm_196 rfl rfl ?_
                  refine g_pcallV12 (rest := [.int (iI (bz (sil σ a))), .int (iI d), .int (iI c), .int (iI b), .int (iI a), .int (iI (σ 0 0)), .int (iI (N : Int)), .ref c1, .ref c1, .ref (g 1 0)]) (na := 1) hx (k_isOverCap l G g M_1 σ N lf B hI hR1 a (by omega)) hR1.o rfl (lw_V q196 q198 qs1 q31 q199) rfl rfl (by decide +kernel) rfl ⟨Nat.le_of_ble_eq_true rfl, Nat.le_of_ble_eq_true rfl⟩ rfl (Nat.le_of_ble_eq_true rfl) dX0_alarm_197 ⟨Nat.le_of_ble_eq_true rfl, Nat.le_of_ble_eq_true rfl⟩ ?_
                  refine g_if_eqP hx 207 dX0_alarm_200 (by decide) (fun c_200 => ?_) (fun c_200 => ?_)
                  ·
                    refine g_iconst hx dX0_alarm_207 ?_
                    refine g_callI (rest := [.ref c1, .ref (g 1 0)]) (na := 8) hx (k_Alarm_init l G M_1 c1 (10, N) (11, N) hc2 (N : Int) (σ 0 0) a b c d (bz (sil σ a)) 0 (bz_or _) (by omega)) (lw_meth q203) q38 q201 q202 rfl rfl rfl (by decide +kernel) rfl ⟨Nat.le_of_ble_eq_true rfl, Nat.le_of_ble_eq_true rfl⟩ rfl (Nat.le_of_ble_eq_true rfl) dX0_alarm_208 ⟨Nat.le_of_ble_eq_true rfl, Nat.le_of_ble_eq_true rfl⟩ (fun v_11 M_12 h_13 => ?_)
                    obtain ⟨rfl, u, hu, rfl⟩ := h_13
                    obtain ⟨M_14, e_15⟩ : ∃ M1 : gH, M1 = up (up M_1 u ((11, N), alc 0 G.2.2.2.1 0)) c1 ((10, N), .inr (1, [.int (iI (N : Int)), .int (iI (σ 0 0)), .int (iI a), .int (iI b), .int (iI c), .int (iI d), .int (iI (bz (sil σ a))), .int (iI 0), .ref u, .int (iI 0), .int (iI (σ 0 0)), .int (iI 0)])) := ⟨_, rfl⟩
                    refine g_M e_15.symm ?_
                    have hcu : up M_1 u ((11, N), alc 0 G.2.2.2.1 0) c1 = some ((10, N), .inr (1, [.int (iI 0), .int (iI 0), .int (iI 0), .int (iI 0), .int (iI 0), .int (iI 0), .int (iI 0), .int (iI 0), .null, .int (iI 0), .int (iI 0), .int (iI 0)])) := up_f hu hc2
                    have hc3 : M_14 c1 = some ((10, N), .inr (1, [.int (iI (N : Int)), .int (iI (σ 0 0)), .int (iI a), .int (iI b), .int (iI c), .int (iI d), .int (iI (bz (sil σ a))), .int (iI 0), .ref u, .int (iI 0), .int (iI (σ 0 0)), .int (iI 0)])) := by rw [e_15]; exact up_s
                    have hu3 : M_14 u = some ((11, N), alc 0 G.2.2.2.1 0) := by rw [e_15]; exact up_l hcu up_s (by simp)
                    have hf0 : ∀ y q, M y = some q → M_14 y = some q := fun y q hq => by
                      have h1 : M_1 y = some q := by rw [e_2]; exact up_f hc1 hq
                      rw [e_15, up_n (fun hz => by subst hz; rw [hc1] at hq; cases hq)]
                      exact up_f hu h1
                    have hR2 : RC G g M_14 σ N lf := hR.fr0 (fun y q hq _ => hf0 y q hq)
                    have hF2 : Fr (fun z => z.1 < 50) M M_14 := fun y q hq _ => hf0 y q hq
                    refine g_callV (rest := []) (na := 1) hx (k_add l G M_14 (g 1 0) (1, 0) (1, 1) N (g 10) c1 hR2.ls (by omega) ⟨_, _, _, hc3, by decide, by decide⟩ (fun j hj => ⟨_, _, _, hR2.al hj, by decide, by decide⟩)) ((al_cell hR2.ls).choose_spec.choose_spec) rfl (lw_V q256 q257 q258 q34 q259) rfl rfl (by decide +kernel) rfl ⟨Nat.le_of_ble_eq_true rfl, Nat.le_of_ble_eq_true rfl⟩ rfl (Nat.le_of_ble_eq_true rfl) dX0_alarm_211 ⟨Nat.le_of_ble_eq_true rfl, Nat.le_of_ble_eq_true rfl⟩ (fun v_16 M_17 h_18 => ?_)
                    obtain ⟨rfl, hA3, hf3⟩ := h_18
                    have hR3 := hR2.push hf3 hA3 (hf3 _ _ hc3 (by simp)) (hf3 _ _ hu3 (by simp))
                    have hF3 : Fr (fun z => z.1 < 50) M M_17 := hF2.tr (hf3.mono (fun z hz => by rcases hz with hz | hz <;> rw [hz] <;> simp))
                    have ho3 : M_17 (g 0 0) = some ((0, 0), .inr (0, cryF g σ lf)) := hf3 _ _ hR2.o (by simp)
                    refine g_pop hx dX0_alarm_214 rfl ?_
                    refine g_aload_n hx 1 dX0_alarm_215 rfl rfl ?_
                    refine gq85 (v := .ref (g 1 0)) hx rfl dX0_alarm_216 ho3 rfl ?_
                    refine g_pcallV (rest := []) (na := 0) hx (k_size l G M_17 (g 1 0) (1, 0) (1, 1) (N + 1 : Nat) (fun j => if j = N then c1 else g 10 j) hA3) ((al_cell hA3).choose_spec.choose_spec) rfl (lw_V q160 q161 q162 q34 q163) rfl rfl (by decide +kernel) rfl ⟨Nat.le_of_ble_eq_true rfl, Nat.le_of_ble_eq_true rfl⟩ rfl (Nat.le_of_ble_eq_true rfl) dX0_alarm_219 ⟨Nat.le_of_ble_eq_true rfl, Nat.le_of_ble_eq_true rfl⟩ ?_
                    refine g_iconst hx dX0_alarm_222 ?_
                    refine g_isub hx dX0_alarm_223 ?_
                    have hok : alOk a b c d := by unfold alOk; omega
                    have hcp : bz (¬ sil σ a ∧ ovr σ N a) = 0 := bz_f (fun h => by have h1 := h.1; have h2 := h.2; first | (exact absurd h2 (by assumption)) | (exact h1 (by assumption)))
                    exact g_iret hx (Nat.le_of_ble_eq_true rfl) (Nat.le_of_ble_eq_true rfl) dX0_alarm_224 ⟨congrArg (fun z => some (Value.int (iI z))) (by unfold alR; rw [if_pos hok, hno, if_neg (by omega)]; omega), ⟨gu (gu g 10 N c1) 11 N u, lf, by rw [gu_n (by omega), gu_n (by omega)], by unfold alT alN; rw [if_pos hok, if_pos hok, hno, if_neg (by omega), if_neg (by omega), hcp]; exact hR3⟩, hF3⟩
                  ·
                    refine g_iconst hx dX0_alarm_203 ?_
                    refine g_goto hx 208 dX0_alarm_204 (by decide) ?_
                    refine g_callI (rest := [.ref c1, .ref (g 1 0)]) (na := 8) hx (k_Alarm_init l G M_1 c1 (10, N) (11, N) hc2 (N : Int) (σ 0 0) a b c d (bz (sil σ a)) 1 (bz_or _) (by omega)) (lw_meth q203) q38 q201 q202 rfl rfl rfl (by decide +kernel) rfl ⟨Nat.le_of_ble_eq_true rfl, Nat.le_of_ble_eq_true rfl⟩ rfl (Nat.le_of_ble_eq_true rfl) dX0_alarm_208 ⟨Nat.le_of_ble_eq_true rfl, Nat.le_of_ble_eq_true rfl⟩ (fun v_19 M_20 h_21 => ?_)
                    obtain ⟨rfl, u, hu, rfl⟩ := h_21
                    obtain ⟨M_22, e_23⟩ : ∃ M1 : gH, M1 = up (up M_1 u ((11, N), alc 0 G.2.2.2.1 0)) c1 ((10, N), .inr (1, [.int (iI (N : Int)), .int (iI (σ 0 0)), .int (iI a), .int (iI b), .int (iI c), .int (iI d), .int (iI (bz (sil σ a))), .int (iI 1), .ref u, .int (iI 0), .int (iI (σ 0 0)), .int (iI 0)])) := ⟨_, rfl⟩
                    refine g_M e_23.symm ?_
                    have hcu : up M_1 u ((11, N), alc 0 G.2.2.2.1 0) c1 = some ((10, N), .inr (1, [.int (iI 0), .int (iI 0), .int (iI 0), .int (iI 0), .int (iI 0), .int (iI 0), .int (iI 0), .int (iI 0), .null, .int (iI 0), .int (iI 0), .int (iI 0)])) := up_f hu hc2
                    have hc3 : M_22 c1 = some ((10, N), .inr (1, [.int (iI (N : Int)), .int (iI (σ 0 0)), .int (iI a), .int (iI b), .int (iI c), .int (iI d), .int (iI (bz (sil σ a))), .int (iI 1), .ref u, .int (iI 0), .int (iI (σ 0 0)), .int (iI 0)])) := by rw [e_23]; exact up_s
                    have hu3 : M_22 u = some ((11, N), alc 0 G.2.2.2.1 0) := by rw [e_23]; exact up_l hcu up_s (by simp)
                    have hf0 : ∀ y q, M y = some q → M_22 y = some q := fun y q hq => by
                      have h1 : M_1 y = some q := by rw [e_2]; exact up_f hc1 hq
                      rw [e_23, up_n (fun hz => by subst hz; rw [hc1] at hq; cases hq)]
                      exact up_f hu h1
                    have hR2 : RC G g M_22 σ N lf := hR.fr0 (fun y q hq _ => hf0 y q hq)
                    have hF2 : Fr (fun z => z.1 < 50) M M_22 := fun y q hq _ => hf0 y q hq
                    refine g_callV (rest := []) (na := 1) hx (k_add l G M_22 (g 1 0) (1, 0) (1, 1) N (g 10) c1 hR2.ls (by omega) ⟨_, _, _, hc3, by decide, by decide⟩ (fun j hj => ⟨_, _, _, hR2.al hj, by decide, by decide⟩)) ((al_cell hR2.ls).choose_spec.choose_spec) rfl (lw_V q256 q257 q258 q34 q259) rfl rfl (by decide +kernel) rfl ⟨Nat.le_of_ble_eq_true rfl, Nat.le_of_ble_eq_true rfl⟩ rfl (Nat.le_of_ble_eq_true rfl) dX0_alarm_211 ⟨Nat.le_of_ble_eq_true rfl, Nat.le_of_ble_eq_true rfl⟩ (fun v_24 M_25 h_26 => ?_)
                    obtain ⟨rfl, hA3, hf3⟩ := h_26
                    have hR3 := hR2.push hf3 hA3 (hf3 _ _ hc3 (by simp)) (hf3 _ _ hu3 (by simp))
                    have hF3 : Fr (fun z => z.1 < 50) M M_25 := hF2.tr (hf3.mono (fun z hz => by rcases hz with hz | hz <;> rw [hz] <;> simp))
                    have ho3 : M_25 (g 0 0) = some ((0, 0), .inr (0, cryF g σ lf)) := hf3 _ _ hR2.o (by simp)
                    refine g_pop hx dX0_alarm_214 rfl ?_
                    refine g_aload_n hx 1 dX0_alarm_215 rfl rfl ?_
                    refine gq85 (v := .ref (g 1 0)) hx rfl dX0_alarm_216 ho3 rfl ?_
                    refine g_pcallV (rest := []) (na := 0) hx (k_size l G M_25 (g 1 0) (1, 0) (1, 1) (N + 1 : Nat) (fun j => if j = N then c1 else g 10 j) hA3) ((al_cell hA3).choose_spec.choose_spec) rfl (lw_V q160 q161 q162 q34 q163) rfl rfl (by decide +kernel) rfl ⟨Nat.le_of_ble_eq_true rfl, Nat.le_of_ble_eq_true rfl⟩ rfl (Nat.le_of_ble_eq_true rfl) dX0_alarm_219 ⟨Nat.le_of_ble_eq_true rfl, Nat.le_of_ble_eq_true rfl⟩ ?_
                    refine g_iconst hx dX0_alarm_222 ?_
                    refine g_isub hx dX0_alarm_223 ?_
                    have hok : alOk a b c d := by unfold alOk; omega
                    have hcp : bz (¬ sil σ a ∧ ovr σ N a) = 1 := bz_t ⟨by assumption, by assumption⟩
                    exact g_iret hx (Nat.le_of_ble_eq_true rfl) (Nat.le_of_ble_eq_true rfl) dX0_alarm_224 ⟨congrArg (fun z => some (Value.int (iI z))) (by unfold alR; rw [if_pos hok, hno, if_neg (by omega)]; omega), ⟨gu (gu g 10 N c1) 11 N u, lf, by rw [gu_n (by omega), gu_n (by omega)], by unfold alT alN; rw [if_pos hok, if_pos hok, hno, if_neg (by omega), if_neg (by omega), hcp]; exact hR3⟩, hF3⟩
              ·
                exact absurd c_151 (by omega)
            ·
              obtain ⟨q, rfl⟩ : ∃ q, j = q + 1 := ⟨j - 1, by omega⟩
              refine g_lv (lv' := [(5, .int (iI (q : Int))), (0, .ref (g 0 0)), (1, .int (iI a)), (2, .int (iI b)), (3, .int (iI c)), (4, .int (iI d))]) [0, 1, 2, 3, 4, 5] (by rw [show ((q + 1 : Nat) : Int) - 1 = (q : Int) by omega]; rfl) ?_
              have hbq := (hI.2.1 q (by omega)).1; unfold okA at hbq
              refine g_aload_n hx 1 dX0_alarm_61 rfl rfl ?_
              refine gq85 (v := .ref (g 1 0)) hx rfl dX0_alarm_62 hR.o rfl ?_
              refine g_iload hx 0 dX0_alarm_65 rfl ?_
              refine g_pcallV (rest := []) (na := 1) hx (k_get l G M (g 1 0) (1, 0) (1, 1) N (g 10) hR.ls q (by omega)) ((al_cell hR.ls).choose_spec.choose_spec) rfl (lw_V q164 q165 q166 q34 q167) rfl rfl (by decide +kernel) rfl ⟨Nat.le_of_ble_eq_true rfl, Nat.le_of_ble_eq_true rfl⟩ rfl (Nat.le_of_ble_eq_true rfl) dX0_alarm_67 ⟨Nat.zero_le _, Nat.zero_le _⟩ ?_
              refine g_cast hx (hR.al (i := q) (by omega)) rfl q178 dX0_alarm_70 ?_
              refine g_astore (lv' := [(6, .ref (g 10 q)), (5, .int (iI (q : Int))), (0, .ref (g 0 0)), (1, .int (iI a)), (2, .int (iI b)), (3, .int (iI c)), (4, .int (iI d))]) hx dX0_alarm_73 (by decide) rfl ?_
              refine g_aload hx 0 dX0_alarm_75 rfl ?_
              refine g_iload_n hx 3 dX0_alarm_77 rfl rfl ?_
              refine g_iload_n hx 4 dX0_alarm_78 rfl rfl ?_
              refine g_iload_n hx 5 dX0_alarm_79 rfl rfl ?_
              refine g_pcallV (rest := []) (na := 3) hx (k_isLike l G g M σ N lf B hI hR q (by omega) a b c (by omega) (by omega) (by omega)) (hR.al (i := q) (by omega)) rfl (lw_V q179 q180 q181 q38 q182) rfl rfl (by decide +kernel) rfl ⟨Nat.le_of_ble_eq_true rfl, Nat.le_of_ble_eq_true rfl⟩ rfl (Nat.le_of_ble_eq_true rfl) dX0_alarm_80 ⟨Nat.zero_le _, Nat.zero_le _⟩ ?_
              refine g_if_eqP hx 135 dX0_alarm_83 (by decide) (fun c_83 => ?_) (fun c_83 => ?_)
              ·
                have hnp : ¬ alP σ a b c q := fun h => by obtain ⟨h1, h2, h3⟩ := h; first | (exact absurd h1 (by assumption)) | (exact absurd h2 (by assumption)) | omega
                refine g_iinc (lv' := [(5, .int (iI ((q : Int) - 1))), (6, .ref (g 10 q)), (0, .ref (g 0 0)), (1, .int (iI a)), (2, .int (iI b)), (3, .int (iI c)), (4, .int (iI d))]) (b := ((q : Int) - 1)) hx 1 dX0_alarm_135 rfl (by omega) (by decide) rfl ?_
                refine g_goto hx 56 dX0_alarm_138 (by decide) ?_
                exact g_lv [0, 2, 3, 4, 5, 6] rfl (ih q (by omega) (by omega) (fun z h1 h2 => by by_cases e : z = q; (· subst e; exact hnp); (· exact hyp z (by omega) h2)))
              ·
                refine g_aload hx 0 dX0_alarm_86 rfl ?_
                refine g_pcallV (rest := []) (na := 0) hx (k_isWaiting l G g M σ N lf B hI hR q (by omega)) (hR.al (i := q) (by omega)) rfl (lw_V q183 q184 q185 q38 q186) rfl rfl (by decide +kernel) rfl ⟨Nat.le_of_ble_eq_true rfl, Nat.le_of_ble_eq_true rfl⟩ rfl (Nat.le_of_ble_eq_true rfl) dX0_alarm_88 ⟨Nat.zero_le _, Nat.zero_le _⟩ ?_
                refine g_if_eqP hx 135 dX0_alarm_91 (by decide) (fun c_91 => ?_) (fun c_91 => ?_)
                ·
                  have hnp : ¬ alP σ a b c q := fun h => by obtain ⟨h1, h2, h3⟩ := h; first | (exact absurd h1 (by assumption)) | (exact absurd h2 (by assumption)) | omega
                  refine g_iinc (lv' := [(5, .int (iI ((q : Int) - 1))), (6, .ref (g 10 q)), (0, .ref (g 0 0)), (1, .int (iI a)), (2, .int (iI b)), (3, .int (iI c)), (4, .int (iI d))]) (b := ((q : Int) - 1)) hx 1 dX0_alarm_135 rfl (by omega) (by decide) rfl ?_
                  refine g_goto hx 56 dX0_alarm_138 (by decide) ?_
                  exact g_lv [0, 2, 3, 4, 5, 6] rfl (ih q (by omega) (by omega) (fun z h1 h2 => by by_cases e : z = q; (· subst e; exact hnp); (· exact hyp z (by omega) h2)))
                ·
                  refine g_aload hx 0 dX0_alarm_94 rfl ?_
                  refine gq228 (v := .int (iI (σ 9 q))) hx rfl dX0_alarm_96 (hR.al (i := q) (by omega)) rfl ?_
                  refine g_aload_n hx 2 dX0_alarm_99 rfl rfl ?_
                  refine gq81 (v := .int (iI (σ 0 0))) hx rfl dX0_alarm_100 hR.o rfl ?_
                  refine g_bipush hx dX0_alarm_103 (by decide) ?_
                  refine g_isub hx dX0_alarm_105 ?_
                  refine g_icmp_ge hx 112 (by omega) (by omega) dX0_alarm_106 (by decide) (fun c_106 => ?_) (fun c_106 => ?_)
                  ·
                    refine g_aload hx 0 dX0_alarm_112 rfl ?_
                    refine g_dup hx dX0_alarm_114 rfl ?_
                    refine gq226 (v := .int (iI (σ 8 q))) hx rfl dX0_alarm_115 (hR.al (i := q) (by omega)) rfl ?_
                    refine g_iconst hx dX0_alarm_118 ?_
                    refine g_iadd hx dX0_alarm_119 ?_
                    refine pq226 (fs' := alF g (su σ 8 q (σ 8 q + 1)) q) hx rfl dX0_alarm_120 (hR.al (i := q) (by omega)) (Nat.le_of_ble_eq_true rfl) (by simp [alF, su]) ?_
                    obtain ⟨M_27, e_28⟩ : ∃ M1 : gH, M1 = up M (g 10 q) ((10, q), .inr (1, alF g (su σ 8 q (σ 8 q + 1)) q)) := ⟨_, rfl⟩
                    refine g_M e_28.symm ?_
                    have hR_29 : RC G g M_27 (su σ 8 q (σ 8 q + 1)) N lf := by rw [e_28]; exact RC.putA hR (by omega) (fun p z hpq => su_n (by omega))
                    have hF_30 : Fr (fun z => z.1 < 50) M M_27 := by rw [e_28]; exact Fr.ofUp (hR.al (i := q) (by omega)) (by simp)
                    refine g_aload hx 0 dX0_alarm_123 rfl ?_
                    refine g_aload_n hx 2 dX0_alarm_125 rfl rfl ?_
                    refine gq81 (v := .int (iI (σ 0 0))) hx rfl dX0_alarm_126 hR_29.o rfl ?_
                    refine pq228 (fs' := alF g (su (su σ 8 q (σ 8 q + 1)) 9 q (σ 0 0)) q) hx rfl dX0_alarm_129 (hR_29.al (i := q) (by omega)) (Nat.le_of_ble_eq_true rfl) (by simp [alF, su]) ?_
                    obtain ⟨M_31, e_32⟩ : ∃ M1 : gH, M1 = up M_27 (g 10 q) ((10, q), .inr (1, alF g (su (su σ 8 q (σ 8 q + 1)) 9 q (σ 0 0)) q)) := ⟨_, rfl⟩
                    refine g_M e_32.symm ?_
                    have hR_33 : RC G g M_31 (su (su σ 8 q (σ 8 q + 1)) 9 q (σ 0 0)) N lf := by rw [e_32]; exact RC.putA hR_29 (by omega) (fun p z hpq => su_n (by omega))
                    have hF_34 : Fr (fun z => z.1 < 50) M M_31 := hF_30.tr (by rw [e_32]; exact Fr.ofUp (hR_29.al (i := q) (by omega)) (by simp))
                    refine g_iload hx 1 dX0_alarm_132 rfl ?_
                    have hok : alOk a b c d := by unfold alOk; omega
                    have hla : la (alP σ a b c) N = (q : Int) := la_at (by omega) ⟨c_83, c_91, by omega⟩ (fun z h1 h2 => hyp z (by omega) h2)
                    exact g_iret hx (Nat.le_of_ble_eq_true rfl) (Nat.le_of_ble_eq_true rfl) dX0_alarm_134 ⟨congrArg (fun z => some (Value.int (iI z))) (by unfold alR; rw [if_pos hok, hla, if_pos (by omega)]), ⟨g, lf, rfl, by unfold alT alN; rw [if_pos hok, if_pos hok, hla, if_pos (by omega), if_pos (by omega), Int.toNat_natCast]; exact hR_33⟩, hF_34⟩
                  ·
                    refine g_goto hx 135 dX0_alarm_109 (by decide) ?_
                    have hnp : ¬ alP σ a b c q := fun h => by obtain ⟨h1, h2, h3⟩ := h; first | (exact absurd h1 (by assumption)) | (exact absurd h2 (by assumption)) | omega
                    refine g_iinc (lv' := [(5, .int (iI ((q : Int) - 1))), (6, .ref (g 10 q)), (0, .ref (g 0 0)), (1, .int (iI a)), (2, .int (iI b)), (3, .int (iI c)), (4, .int (iI d))]) (b := ((q : Int) - 1)) hx 1 dX0_alarm_135 rfl (by omega) (by decide) rfl ?_
                    refine g_goto hx 56 dX0_alarm_138 (by decide) ?_
                    exact g_lv [0, 2, 3, 4, 5, 6] rfl (ih q (by omega) (by omega) (fun z h1 h2 => by by_cases e : z = q; (· subst e; exact hnp); (· exact hyp z (by omega) h2)))
          exact g_lv [0, 1, 2, 3, 4, 5] rfl (lp N (Nat.le_refl _) (fun z h1 h2 => by omega))
        ·
          refine g_bipush hx dX0_alarm_42 (by decide) ?_
          exact g_iret hx (Nat.le_of_ble_eq_true rfl) (Nat.le_of_ble_eq_true rfl) dX0_alarm_44 ⟨congrArg (fun z => some (Value.int (iI z))) (by unfold alR; rw [if_neg (by unfold alOk; omega)]), ⟨g, lf, rfl, by unfold alT alN; rw [if_neg (by unfold alOk; omega), if_neg (by unfold alOk; omega)]; exact hR⟩, Fr.rf⟩
