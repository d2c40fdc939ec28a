/-! THE CLASS: methods that change it -/
set_option maxRecDepth 100000
theorem up_up {M : gH} {a : Nat} {q q' : gC} : up (up M a q) a q' = up M a q' := by
  funext z
  by_cases e : z = a
  · subst e; rw [up_s, up_s]
  · rw [up_n e, up_n e, up_n e]
def gu (g : gA2) (a b v : Nat) : gA2 := fun p q => if p = a ∧ q = b then v else g p q
theorem gu_s {g : gA2} {a b v : Nat} : gu g a b v a b = v := by simp [gu]
theorem gu_n {g : gA2} {a b v p q : Nat} (h : ¬ (p = a ∧ q = b)) : gu g a b v p q = g p q := by simp [gu, h]
/-- what a method of the class answers and leaves -/
def MC (G : gG) (M : gH) (c : Nat) (r : Int) (σ' : sT) (N' : Nat) : Option Value → gH → Prop := fun v M' => v = some (.int (iI r)) ∧ (∃ (g' : gA2) (lf' : Int), g' 0 0 = c ∧ RC G g' M' σ' N' lf') ∧ Fr (fun z => z.1 < 50) M M'
section RCu
variable {G : gG} {g : gA2} {M M' : gH} {σ σ' : sT} {N : Nat} {lf lf' : Int}
theorem MC.same {r r' : Int} (h : RC G g M σ N lf) (e : r' = r) : MC G M (g 0 0) r σ N (some (.int (iI r'))) M := by rw [e]; exact ⟨rfl, ⟨g, lf, rfl, h⟩, Fr.rf⟩
theorem CO.cg (h : CO G g M σ N) (e : ∀ p, 1 ≤ p → σ' p = σ p) : CO G g M σ' N := by
  obtain ⟨a1, a2, a3, a4, a5, a6, a7, a8, a9⟩ := h
  refine ⟨a1, fun i hi => ?_, fun i hi => ?_, ?_, ?_, ?_, ?_, ?_, ?_⟩
  · rw [a2 i hi]; simp only [alF, e 1 (by omega), e 2 (by omega), e 3 (by omega), e 4 (by omega), e 5 (by omega), e 6 (by omega), e 7 (by omega), e 8 (by omega), e 9 (by omega), e 10 (by omega)]
  · exact (a3 i hi).fr (P := fun _ => False) Fr.rf (by simp) (by simp) (by simp) (by rw [e 11 (by omega)]) (by rw [e 12 (by omega)])
  · rw [e 13 (by omega)]; exact a4
  · rw [e 14 (by omega)]; exact a5
  · rw [e 15 (by omega)]; exact a6
  · rw [e 16 (by omega)]; exact a7
  · rw [e 17 (by omega)]; exact a8
  · rw [e 18 (by omega)]; exact a9
theorem RC.putO (h : RC G g M σ N lf) (e : ∀ p, 1 ≤ p → σ' p = σ p) : RC G g (up M (g 0 0) ((0, 0), .inr (0, cryF g σ' lf'))) σ' N lf' := by
  have hf : Fr (fun z => z = (0, 0)) M (up M (g 0 0) ((0, 0), .inr (0, cryF g σ' lf'))) := Fr.ofUp h.o rfl
  exact ⟨up_s, (h.2.1.fr hf (fun z hz => by rw [hz]; exact Or.inl rfl)).cg e, h.2.2.fr hf (fun z hz => by rw [hz]; exact Or.inl (by decide))⟩
theorem RC.fr0 (h : RC G g M σ N lf) (hf : Fr (fun _ => False) M M') : RC G g M' σ N lf := ⟨hf _ _ h.1 id, h.2.1.fr hf (fun z hz => hz.elim), h.2.2.fr hf (fun z hz => hz.elim)⟩
theorem RC.putS2 (h : RC G g M σ N lf) {k : Nat} {v : Int} : RC G g (up M (g 2 0) ((2, 0), aI G 30 (fu (σ 13) k v))) (su σ 13 k v) N lf := by
  have hf : Fr (fun z => z = (2, 0)) M (up M (g 2 0) ((2, 0), aI G 30 (fu (σ 13) k v))) := Fr.ofUp h.s2 rfl
  obtain ⟨h0, ⟨a1, a2, a3, a4, a5, a6, a7, a8, a9⟩, h3⟩ := h
  exact ⟨hf _ _ h0 (by simp), ⟨a1.fr hf (by simp) (by simp), fun i hi => hf _ _ (a2 i hi) (by simp), fun i hi => (a3 i hi).fr hf (by simp) (by simp) (by simp) rfl rfl, by rw [su_f]; exact up_s, hf _ _ a5 (by simp), hf _ _ a6 (by simp), hf _ _ a7 (by simp), hf _ _ a8 (by simp), hf _ _ a9 (by simp)⟩, h3.fr hf (fun z hz => by rw [hz]; exact Or.inl (by decide))⟩
theorem RC.putS3 (h : RC G g M σ N lf) {k : Nat} {v : Int} : RC G g (up M (g 3 0) ((3, 0), aI G 30 (fu (σ 14) k v))) (su σ 14 k v) N lf := by
  have hf : Fr (fun z => z = (3, 0)) M (up M (g 3 0) ((3, 0), aI G 30 (fu (σ 14) k v))) := Fr.ofUp h.s3 rfl
  obtain ⟨h0, ⟨a1, a2, a3, a4, a5, a6, a7, a8, a9⟩, h3⟩ := h
  exact ⟨hf _ _ h0 (by simp), ⟨a1.fr hf (by simp) (by simp), fun i hi => hf _ _ (a2 i hi) (by simp), fun i hi => (a3 i hi).fr hf (by simp) (by simp) (by simp) rfl rfl, hf _ _ a4 (by simp), by rw [su_f]; exact up_s, hf _ _ a6 (by simp), hf _ _ a7 (by simp), hf _ _ a8 (by simp), hf _ _ a9 (by simp)⟩, h3.fr hf (fun z hz => by rw [hz]; exact Or.inl (by decide))⟩
theorem RC.putS4 (h : RC G g M σ N lf) {k : Nat} {v : Int} : RC G g (up M (g 4 0) ((4, 0), aI G 30 (fu (σ 15) k v))) (su σ 15 k v) N lf := by
  have hf : Fr (fun z => z = (4, 0)) M (up M (g 4 0) ((4, 0), aI G 30 (fu (σ 15) k v))) := Fr.ofUp h.s4 rfl
  obtain ⟨h0, ⟨a1, a2, a3, a4, a5, a6, a7, a8, a9⟩, h3⟩ := h
  exact ⟨hf _ _ h0 (by simp), ⟨a1.fr hf (by simp) (by simp), fun i hi => hf _ _ (a2 i hi) (by simp), fun i hi => (a3 i hi).fr hf (by simp) (by simp) (by simp) rfl rfl, hf _ _ a4 (by simp), hf _ _ a5 (by simp), by rw [su_f]; exact up_s, hf _ _ a7 (by simp), hf _ _ a8 (by simp), hf _ _ a9 (by simp)⟩, h3.fr hf (fun z hz => by rw [hz]; exact Or.inl (by decide))⟩
theorem RC.putT5 (h : RC G g M σ N lf) {k : Nat} {v : Int} : RC G g (up M (g 5 0) ((5, 0), aI G 60 (fu (σ 16) k v))) (su σ 16 k v) N lf := by
  have hf : Fr (fun z => z = (5, 0)) M (up M (g 5 0) ((5, 0), aI G 60 (fu (σ 16) k v))) := Fr.ofUp h.t5 rfl
  obtain ⟨h0, ⟨a1, a2, a3, a4, a5, a6, a7, a8, a9⟩, h3⟩ := h
  exact ⟨hf _ _ h0 (by simp), ⟨a1.fr hf (by simp) (by simp), fun i hi => hf _ _ (a2 i hi) (by simp), fun i hi => (a3 i hi).fr hf (by simp) (by simp) (by simp) rfl rfl, hf _ _ a4 (by simp), hf _ _ a5 (by simp), hf _ _ a6 (by simp), by rw [su_f]; exact up_s, hf _ _ a8 (by simp), hf _ _ a9 (by simp)⟩, h3.fr hf (fun z hz => by rw [hz]; exact Or.inl (by decide))⟩
theorem RC.putT6 (h : RC G g M σ N lf) {k : Nat} {v : Int} : RC G g (up M (g 6 0) ((6, 0), aI G 60 (fu (σ 17) k v))) (su σ 17 k v) N lf := by
  have hf : Fr (fun z => z = (6, 0)) M (up M (g 6 0) ((6, 0), aI G 60 (fu (σ 17) k v))) := Fr.ofUp h.t6 rfl
  obtain ⟨h0, ⟨a1, a2, a3, a4, a5, a6, a7, a8, a9⟩, h3⟩ := h
  exact ⟨hf _ _ h0 (by simp), ⟨a1.fr hf (by simp) (by simp), fun i hi => hf _ _ (a2 i hi) (by simp), fun i hi => (a3 i hi).fr hf (by simp) (by simp) (by simp) rfl rfl, hf _ _ a4 (by simp), hf _ _ a5 (by simp), hf _ _ a6 (by simp), hf _ _ a7 (by simp), by rw [su_f]; exact up_s, hf _ _ a9 (by simp)⟩, h3.fr hf (fun z hz => by rw [hz]; exact Or.inl (by decide))⟩
theorem RC.putT7 (h : RC G g M σ N lf) {k : Nat} {v : Int} : RC G g (up M (g 7 0) ((7, 0), aZ G 60 (fu (σ 18) k v))) (su σ 18 k v) N lf := by
  have hf : Fr (fun z => z = (7, 0)) M (up M (g 7 0) ((7, 0), aZ G 60 (fu (σ 18) k v))) := Fr.ofUp h.t7 rfl
  obtain ⟨h0, ⟨a1, a2, a3, a4, a5, a6, a7, a8, a9⟩, h3⟩ := h
  exact ⟨hf _ _ h0 (by simp), ⟨a1.fr hf (by simp) (by simp), fun i hi => hf _ _ (a2 i hi) (by simp), fun i hi => (a3 i hi).fr hf (by simp) (by simp) (by simp) rfl rfl, hf _ _ a4 (by simp), hf _ _ a5 (by simp), hf _ _ a6 (by simp), hf _ _ a7 (by simp), hf _ _ a8 (by simp), by rw [su_f]; exact up_s⟩, h3.fr hf (fun z hz => by rw [hz]; exact Or.inl (by decide))⟩
/-- an alarm's own cell is written: what may change are 8, 9, 10 -/
theorem RC.putA (h : RC G g M σ N lf) {i : Nat} (hi : i < N) (e : ∀ p q, ¬ (q = i ∧ 8 ≤ p ∧ p ≤ 10) → σ' p q = σ p q) : RC G g (up M (g 10 i) ((10, i), .inr (1, alF g σ' i))) σ' N lf := by
  have hf : Fr (fun z => z = (10, i)) M (up M (g 10 i) ((10, i), .inr (1, alF g σ' i))) := Fr.ofUp (h.al hi) rfl
  obtain ⟨h0, ⟨a1, a2, a3, a4, a5, a6, a7, a8, a9⟩, h3⟩ := h
  have e' : ∀ p, p < 8 ∨ 10 < p → σ' p = σ p := fun p hp => by funext q; exact e p q (by omega)
  have e0 : cryF g σ' lf = cryF g σ lf := by simp only [cryF, e' 0 (by omega)]
  refine ⟨by rw [e0]; exact hf _ _ h0 (by simp), ⟨a1.fr hf (by simp) (by simp), fun j hj => ?_, fun j hj => (a3 j hj).fr hf (by simp) (by simp) (by simp) (by rw [e' 11 (by omega)]) (by rw [e' 12 (by omega)]), ?_, ?_, ?_, ?_, ?_, ?_⟩, h3.fr hf (fun z hz => by rw [hz]; exact Or.inl (by show 10 < 20; decide))⟩
  · by_cases ij : j = i
    · subst ij; exact up_s
    · rw [hf _ _ (a2 j hj) (by simp [ij])]
      simp only [alF, e' 1 (by omega), e' 2 (by omega), e' 3 (by omega), e' 4 (by omega), e' 5 (by omega), e' 6 (by omega), e' 7 (by omega), e 8 j (by omega), e 9 j (by omega), e 10 j (by omega)]
  · rw [e' 13 (by omega)]; exact hf _ _ a4 (by simp)
  · rw [e' 14 (by omega)]; exact hf _ _ a5 (by simp)
  · rw [e' 15 (by omega)]; exact hf _ _ a6 (by simp)
  · rw [e' 16 (by omega)]; exact hf _ _ a7 (by simp)
  · rw [e' 17 (by omega)]; exact hf _ _ a8 (by simp)
  · rw [e' 18 (by omega)]; exact hf _ _ a9 (by simp)
end RCu
/-! pass, set, silence, tie: the answer and the state behind it -/
def passR (σ : sT) (a : Int) : Int := if (1 ≤ a ∧ a ≤ 1000) ∧ σ 0 0 + a ≤ 10000 then σ 0 0 + a else -1
def passT (σ : sT) (a : Int) : sT := if (1 ≤ a ∧ a ≤ 1000) ∧ σ 0 0 + a ≤ 10000 then su σ 0 0 (σ 0 0 + a) else σ
def setOk (a b : Int) : Prop := (a = 0 ∧ 1 ≤ b ∧ b ≤ 50) ∨ (a = 1 ∧ 1 ≤ b ∧ b ≤ 20) ∨ (a = 2 ∧ 0 ≤ b ∧ b ≤ 5)
noncomputable def setR (a b : Int) : Int := bz (setOk a b)
noncomputable def setT (σ : sT) (a b : Int) : sT := @ite sT (setOk a b) (Classical.propDecidable _) (su σ 0 (a.toNat + 1) b) σ
def silOk (σ : sT) (a b c : Int) : Prop := (0 ≤ a ∧ a ≤ 9) ∧ 0 ≤ b ∧ b ≤ c ∧ c ≤ 10000 ∧ σ 0 4 ≠ 30
noncomputable def silR (σ : sT) (a b c : Int) : Int := @ite Int (silOk σ a b c) (Classical.propDecidable _) (σ 0 4 + 1) (-1)
noncomputable def silT (σ : sT) (a b c : Int) : sT := @ite sT (silOk σ a b c) (Classical.propDecidable _) (su (su (su (su σ 13 (σ 0 4).toNat a) 14 (σ 0 4).toNat b) 15 (σ 0 4).toNat c) 0 4 (σ 0 4 + 1)) σ
theorem kc_pass (l : Launch) (G : gG) (g : gA2) (M : gH) (σ : sT) (N : Nat) (lf : Int) (B : Nat) (hI : Iv σ N B) (hR : RC G g M σ N lf) (a : Int) (ha : -2147483648 ≤ a ∧ a ≤ 2147483647) : GMet l yX0_pass (ws_ yX0_pass cX0_pass 2 (some .int)) ({ frames := 1, cells := 0, slots := 0, locals := 22 } : Room) G [.ref (g 0 0), .int (iI a)] M (MC G M (g 0 0) (passR σ a) (passT σ a) N) 0 0 := by
  refine g_start (by decide) (Nat.le_of_ble_eq_true rfl) (fun x hx => ?_)
  have hb0 := hI.1
  refine g_iload_n hx 1 dX0_pass_0 rfl rfl ?_
  refine g_iconst hx dX0_pass_1 ?_
  refine g_sipush hx dX0_pass_2 (by decide) ?_
  refine g_pcallS (rest := []) (na := 3) hx (k_isIn l G M a 1 1000 (by omega) (by omega) (by omega)) (lw_S q145 q146 q31 q147) rfl rfl (by decide +kernel) rfl ⟨Nat.le_of_ble_eq_true rfl, Nat.le_of_ble_eq_true rfl⟩ rfl (Nat.le_of_ble_eq_true rfl) dX0_pass_5 ⟨Nat.zero_le _, Nat.zero_le _⟩ ?_
  refine g_if_eqP hx 23 dX0_pass_8 (by decide) (fun c_8 => ?_) (fun c_8 => ?_)
  ·
    refine g_iconst hx dX0_pass_23 ?_
    exact g_iret hx (Nat.zero_le _) (Nat.zero_le _) dX0_pass_24 ⟨congrArg (fun z => some (Value.int (iI z))) (by unfold passR; rw [if_neg (by omega)]), ⟨g, lf, rfl, by unfold passT; rw [if_neg (by omega)]; exact hR⟩, Fr.rf⟩
  ·
    refine g_aload_n hx 0 dX0_pass_11 rfl rfl ?_
    refine gq81 (v := .int (iI (σ 0 0))) hx rfl dX0_pass_12 hR.o rfl ?_
    refine g_iload_n hx 1 dX0_pass_15 rfl rfl ?_
    refine g_iadd hx dX0_pass_16 ?_
    refine g_sipush hx dX0_pass_17 (by decide) ?_
    refine g_icmp_le hx 25 (by omega) (by omega) dX0_pass_20 (by decide) (fun c_20 => ?_) (fun c_20 => ?_)
    ·
      refine g_aload_n hx 0 dX0_pass_25 rfl rfl ?_
      refine g_dup hx dX0_pass_26 rfl ?_
      refine gq81 (v := .int (iI (σ 0 0))) hx rfl dX0_pass_27 hR.o rfl ?_
      refine g_iload_n hx 1 dX0_pass_30 rfl rfl ?_
      refine g_iadd hx dX0_pass_31 ?_
      refine pq81 (fs' := cryF g (su σ 0 0 (σ 0 0 + a)) lf) hx rfl dX0_pass_32 hR.o (Nat.le_of_ble_eq_true rfl) rfl ?_
      obtain ⟨M_1, e_2⟩ : ∃ M1 : gH, M1 = up M (g 0 0) ((0, 0), .inr (0, cryF g (su σ 0 0 (σ 0 0 + a)) lf)) := ⟨_, rfl⟩
      refine g_M e_2.symm ?_
      have hR_3 : RC G g M_1 (su σ 0 0 (σ 0 0 + a)) N lf := by rw [e_2]; exact RC.putO hR (fun p hp => by funext q; simp only [su]; rw [if_neg (by omega)])
      have hF_4 : Fr (fun z => z.1 < 50) M M_1 := by rw [e_2]; exact Fr.ofUp hR.o (by simp)
      refine g_aload_n hx 0 dX0_pass_35 rfl rfl ?_
      refine gq81 (v := .int (iI ((su σ 0 0 (σ 0 0 + a)) 0 0))) hx rfl dX0_pass_36 hR_3.o rfl ?_
      exact g_iret hx (Nat.zero_le _) (Nat.zero_le _) dX0_pass_39 ⟨congrArg (fun z => some (Value.int (iI z))) (by unfold passR; rw [if_pos (by omega), su_s]), ⟨g, lf, rfl, by unfold passT; rw [if_pos (by omega)]; exact hR_3⟩, hF_4⟩
    ·
      refine g_iconst hx dX0_pass_23 ?_
      exact g_iret hx (Nat.zero_le _) (Nat.zero_le _) dX0_pass_24 ⟨congrArg (fun z => some (Value.int (iI z))) (by unfold passR; rw [if_neg (by omega)]), ⟨g, lf, rfl, by unfold passT; rw [if_neg (by omega)]; exact hR⟩, Fr.rf⟩
theorem kc_set (l : Launch) (G : gG) (g : gA2) (M : gH) (σ : sT) (N : Nat) (lf : Int) (B : Nat) (hI : Iv σ N B) (hR : RC G g M σ N lf) (a b : Int) (ha : -2147483648 ≤ a ∧ a ≤ 2147483647) (hb : -2147483648 ≤ b ∧ b ≤ 2147483647) : GMet l yX0_set (ws_ yX0_set cX0_set 3 (some .boolean)) ({ frames := 1, cells := 0, slots := 0, locals := 22 } : Room) G [.ref (g 0 0), .int (iI a), .int (iI b)] M (MC G M (g 0 0) (setR a b) (setT σ a b) N) 0 0 := by
  refine g_start (by decide) (Nat.le_of_ble_eq_true rfl) (fun x hx => ?_)
  have hb0 := hI.1
  refine g_iload_n hx 1 dX0_set_0 rfl rfl ?_
  by_cases c_1_0 : a = 0
  ·
    subst c_1_0
    refine g_tsAt hx 0 28 rfl (by decide) dX0_set_1 (by rfl) (by decide) ?_
    refine g_iload_n hx 2 dX0_set_28 rfl rfl ?_
    refine g_iconst hx dX0_set_29 ?_
    refine g_bipush hx dX0_set_30 (by decide) ?_
    refine g_pcallS (rest := []) (na := 3) hx (k_isIn l G M b 1 50 (by omega) (by omega) (by omega)) (lw_S q145 q146 q31 q147) rfl rfl (by decide +kernel) rfl ⟨Nat.le_of_ble_eq_true rfl, Nat.le_of_ble_eq_true rfl⟩ rfl (Nat.le_of_ble_eq_true rfl) dX0_set_32 ⟨Nat.zero_le _, Nat.zero_le _⟩ ?_
    refine g_if_neP hx 40 dX0_set_35 (by decide) (fun c_35 => ?_) (fun c_35 => ?_)
    ·
      refine g_aload_n hx 0 dX0_set_40 rfl rfl ?_
      refine g_iload_n hx 2 dX0_set_41 rfl rfl ?_
      refine pq82 (fs' := cryF g (su σ 0 1 b) lf) hx rfl dX0_set_42 hR.o (Nat.le_of_ble_eq_true rfl) rfl ?_
      obtain ⟨M_1, e_2⟩ : ∃ M1 : gH, M1 = up M (g 0 0) ((0, 0), .inr (0, cryF g (su σ 0 1 b) lf)) := ⟨_, rfl⟩
      refine g_M e_2.symm ?_
      have hR_3 : RC G g M_1 (su σ 0 1 b) N lf := by rw [e_2]; exact RC.putO hR (fun p hp => by funext q; simp only [su]; rw [if_neg (by omega)])
      have hF_4 : Fr (fun z => z.1 < 50) M M_1 := by rw [e_2]; exact Fr.ofUp hR.o (by simp)
      refine g_iconst hx dX0_set_45 ?_
      exact g_zret hx (by decide) (Nat.zero_le _) (Nat.zero_le _) dX0_set_46 ⟨congrArg (fun z => some (Value.int (iI z))) (by unfold setR; rw [bz_t (by unfold setOk; omega)]), ⟨g, lf, rfl, by unfold setT; rw [if_pos (by unfold setOk; omega)]; exact hR_3⟩, hF_4⟩
    ·
      refine g_iconst hx dX0_set_38 ?_
      exact g_zret hx (by decide) (Nat.zero_le _) (Nat.zero_le _) dX0_set_39 ⟨congrArg (fun z => some (Value.int (iI z))) (by unfold setR; rw [bz_f (by unfold setOk; omega)]), ⟨g, lf, rfl, by unfold setT; rw [if_neg (by unfold setOk; omega)]; exact hR⟩, Fr.rf⟩
  by_cases c_1_1 : a = 1
  ·
    subst c_1_1
    refine g_tsAt hx 1 47 rfl (by decide) dX0_set_1 (by rfl) (by decide) ?_
    refine g_iload_n hx 2 dX0_set_47 rfl rfl ?_
    refine g_iconst hx dX0_set_48 ?_
    refine g_bipush hx dX0_set_49 (by decide) ?_
    refine g_pcallS (rest := []) (na := 3) hx (k_isIn l G M b 1 20 (by omega) (by omega) (by omega)) (lw_S q145 q146 q31 q147) rfl rfl (by decide +kernel) rfl ⟨Nat.le_of_ble_eq_true rfl, Nat.le_of_ble_eq_true rfl⟩ rfl (Nat.le_of_ble_eq_true rfl) dX0_set_51 ⟨Nat.zero_le _, Nat.zero_le _⟩ ?_
    refine g_if_neP hx 59 dX0_set_54 (by decide) (fun c_54 => ?_) (fun c_54 => ?_)
    ·
      refine g_aload_n hx 0 dX0_set_59 rfl rfl ?_
      refine g_iload_n hx 2 dX0_set_60 rfl rfl ?_
      refine pq83 (fs' := cryF g (su σ 0 2 b) lf) hx rfl dX0_set_61 hR.o (Nat.le_of_ble_eq_true rfl) rfl ?_
      obtain ⟨M_5, e_6⟩ : ∃ M1 : gH, M1 = up M (g 0 0) ((0, 0), .inr (0, cryF g (su σ 0 2 b) lf)) := ⟨_, rfl⟩
      refine g_M e_6.symm ?_
      have hR_7 : RC G g M_5 (su σ 0 2 b) N lf := by rw [e_6]; exact RC.putO hR (fun p hp => by funext q; simp only [su]; rw [if_neg (by omega)])
      have hF_8 : Fr (fun z => z.1 < 50) M M_5 := by rw [e_6]; exact Fr.ofUp hR.o (by simp)
      refine g_iconst hx dX0_set_64 ?_
      exact g_zret hx (by decide) (Nat.zero_le _) (Nat.zero_le _) dX0_set_65 ⟨congrArg (fun z => some (Value.int (iI z))) (by unfold setR; rw [bz_t (by unfold setOk; omega)]), ⟨g, lf, rfl, by unfold setT; rw [if_pos (by unfold setOk; omega)]; exact hR_7⟩, hF_8⟩
    ·
      refine g_iconst hx dX0_set_57 ?_
      exact g_zret hx (by decide) (Nat.zero_le _) (Nat.zero_le _) dX0_set_58 ⟨congrArg (fun z => some (Value.int (iI z))) (by unfold setR; rw [bz_f (by unfold setOk; omega)]), ⟨g, lf, rfl, by unfold setT; rw [if_neg (by unfold setOk; omega)]; exact hR⟩, Fr.rf⟩
  by_cases c_1_2 : a = 2
  ·
    subst c_1_2
    refine g_tsAt hx 2 66 rfl (by decide) dX0_set_1 (by rfl) (by decide) ?_
    refine g_iload_n hx 2 dX0_set_66 rfl rfl ?_
    refine g_iconst hx dX0_set_67 ?_
    refine g_iconst hx dX0_set_68 ?_
    refine g_pcallS (rest := []) (na := 3) hx (k_isIn l G M b 0 5 (by omega) (by omega) (by omega)) (lw_S q145 q146 q31 q147) rfl rfl (by decide +kernel) rfl ⟨Nat.le_of_ble_eq_true rfl, Nat.le_of_ble_eq_true rfl⟩ rfl (Nat.le_of_ble_eq_true rfl) dX0_set_69 ⟨Nat.zero_le _, Nat.zero_le _⟩ ?_
    refine g_if_neP hx 77 dX0_set_72 (by decide) (fun c_72 => ?_) (fun c_72 => ?_)
    ·
      refine g_aload_n hx 0 dX0_set_77 rfl rfl ?_
      refine g_iload_n hx 2 dX0_set_78 rfl rfl ?_
      refine pq84 (fs' := cryF g (su σ 0 3 b) lf) hx rfl dX0_set_79 hR.o (Nat.le_of_ble_eq_true rfl) rfl ?_
      obtain ⟨M_9, e_10⟩ : ∃ M1 : gH, M1 = up M (g 0 0) ((0, 0), .inr (0, cryF g (su σ 0 3 b) lf)) := ⟨_, rfl⟩
      refine g_M e_10.symm ?_
      have hR_11 : RC G g M_9 (su σ 0 3 b) N lf := by rw [e_10]; exact RC.putO hR (fun p hp => by funext q; simp only [su]; rw [if_neg (by omega)])
      have hF_12 : Fr (fun z => z.1 < 50) M M_9 := by rw [e_10]; exact Fr.ofUp hR.o (by simp)
      refine g_iconst hx dX0_set_82 ?_
      exact g_zret hx (by decide) (Nat.zero_le _) (Nat.zero_le _) dX0_set_83 ⟨congrArg (fun z => some (Value.int (iI z))) (by unfold setR; rw [bz_t (by unfold setOk; omega)]), ⟨g, lf, rfl, by unfold setT; rw [if_pos (by unfold setOk; omega)]; exact hR_11⟩, hF_12⟩
    ·
      refine g_iconst hx dX0_set_75 ?_
      exact g_zret hx (by decide) (Nat.zero_le _) (Nat.zero_le _) dX0_set_76 ⟨congrArg (fun z => some (Value.int (iI z))) (by unfold setR; rw [bz_f (by unfold setOk; omega)]), ⟨g, lf, rfl, by unfold setT; rw [if_neg (by unfold setOk; omega)]; exact hR⟩, Fr.rf⟩
  refine g_tsOut hx 84 (by omega) (by omega) dX0_set_1 (by decide) ?_
  refine g_iconst hx dX0_set_84 ?_
  exact g_zret hx (by decide) (Nat.zero_le _) (Nat.zero_le _) dX0_set_85 ⟨congrArg (fun z => some (Value.int (iI z))) (by unfold setR; rw [bz_f (by unfold setOk; omega)]), ⟨g, lf, rfl, by unfold setT; rw [if_neg (by unfold setOk; omega)]; exact hR⟩, Fr.rf⟩
theorem kc_silence (l : Launch) (G : gG) (g : gA2) (M : gH) (σ : sT) (N : Nat) (lf : Int) (B : Nat) (hI : Iv σ N B) (hR : RC G g M σ N lf) (a b c : Int) (ha : -2147483648 ≤ a ∧ a ≤ 2147483647) (hb : -2147483648 ≤ b ∧ b ≤ 2147483647) (hc : -2147483648 ≤ c ∧ c ≤ 2147483647) : GMet l yX0_silence (ws_ yX0_silence cX0_silence 4 (some .int)) ({ frames := 1, cells := 0, slots := 0, locals := 22 } : Room) G [.ref (g 0 0), .int (iI a), .int (iI b), .int (iI c)] M (MC G M (g 0 0) (silR σ a b c) (silT σ a b c) N) 0 0 := by
  refine g_start (by decide) (Nat.le_of_ble_eq_true rfl) (fun x hx => ?_)
  have hb0 := hI.1
  refine g_iload_n hx 1 dX0_silence_0 rfl rfl ?_
  refine g_iconst hx dX0_silence_1 ?_
  refine g_bipush hx dX0_silence_2 (by decide) ?_
  refine g_pcallS (rest := []) (na := 3) hx (k_isIn l G M a 0 9 (by omega) (by omega) (by omega)) (lw_S q145 q146 q31 q147) rfl rfl (by decide +kernel) rfl ⟨Nat.le_of_ble_eq_true rfl, Nat.le_of_ble_eq_true rfl⟩ rfl (Nat.le_of_ble_eq_true rfl) dX0_silence_4 ⟨Nat.zero_le _, Nat.zero_le _⟩ ?_
  refine g_if_eqP hx 41 dX0_silence_7 (by decide) (fun c_7 => ?_) (fun c_7 => ?_)
  ·
    refine g_iconst hx dX0_silence_41 ?_
    exact g_iret hx (Nat.zero_le _) (Nat.zero_le _) dX0_silence_42 ⟨congrArg (fun z => some (Value.int (iI z))) (by unfold silR; rw [if_neg (by unfold silOk; omega)]), ⟨g, lf, rfl, by unfold silT; rw [if_neg (by unfold silOk; omega)]; exact hR⟩, Fr.rf⟩
  ·
    refine g_iload_n hx 2 dX0_silence_10 rfl rfl ?_
    refine g_iconst hx dX0_silence_11 ?_
    refine g_sipush hx dX0_silence_12 (by decide) ?_
    refine g_pcallS (rest := []) (na := 3) hx (k_isIn l G M b 0 10000 (by omega) (by omega) (by omega)) (lw_S q145 q146 q31 q147) rfl rfl (by decide +kernel) rfl ⟨Nat.le_of_ble_eq_true rfl, Nat.le_of_ble_eq_true rfl⟩ rfl (Nat.le_of_ble_eq_true rfl) dX0_silence_15 ⟨Nat.zero_le _, Nat.zero_le _⟩ ?_
    refine g_if_eqP hx 41 dX0_silence_18 (by decide) (fun c_18 => ?_) (fun c_18 => ?_)
    ·
      refine g_iconst hx dX0_silence_41 ?_
      exact g_iret hx (Nat.zero_le _) (Nat.zero_le _) dX0_silence_42 ⟨congrArg (fun z => some (Value.int (iI z))) (by unfold silR; rw [if_neg (by unfold silOk; omega)]), ⟨g, lf, rfl, by unfold silT; rw [if_neg (by unfold silOk; omega)]; exact hR⟩, Fr.rf⟩
    ·
      refine g_iload_n hx 3 dX0_silence_21 rfl rfl ?_
      refine g_iload_n hx 2 dX0_silence_22 rfl rfl ?_
      refine g_sipush hx dX0_silence_23 (by decide) ?_
      refine g_pcallS (rest := []) (na := 3) hx (k_isIn l G M c b 10000 (by omega) (by omega) (by omega)) (lw_S q145 q146 q31 q147) rfl rfl (by decide +kernel) rfl ⟨Nat.le_of_ble_eq_true rfl, Nat.le_of_ble_eq_true rfl⟩ rfl (Nat.le_of_ble_eq_true rfl) dX0_silence_26 ⟨Nat.zero_le _, Nat.zero_le _⟩ ?_
      refine g_if_eqP hx 41 dX0_silence_29 (by decide) (fun c_29 => ?_) (fun c_29 => ?_)
      ·
        refine g_iconst hx dX0_silence_41 ?_
        exact g_iret hx (Nat.zero_le _) (Nat.zero_le _) dX0_silence_42 ⟨congrArg (fun z => some (Value.int (iI z))) (by unfold silR; rw [if_neg (by unfold silOk; omega)]), ⟨g, lf, rfl, by unfold silT; rw [if_neg (by unfold silOk; omega)]; exact hR⟩, Fr.rf⟩
      ·
        refine g_aload_n hx 0 dX0_silence_32 rfl rfl ?_
        refine gq89 (v := .int (iI (σ 0 4))) hx rfl dX0_silence_33 hR.o rfl ?_
        refine g_bipush hx dX0_silence_36 (by decide) ?_
        refine g_icmp_ne hx 43 (by omega) (by omega) dX0_silence_38 (by decide) (fun c_38 => ?_) (fun c_38 => ?_)
        ·
          refine g_aload_n hx 0 dX0_silence_43 rfl rfl ?_
          refine gq86 (v := .ref (g 2 0)) hx rfl dX0_silence_44 hR.o rfl ?_
          refine g_aload_n hx 0 dX0_silence_47 rfl rfl ?_
          refine gq89 (v := .int (iI (σ 0 4))) hx rfl dX0_silence_48 hR.o rfl ?_
          refine g_iload_n hx 1 dX0_silence_51 rfl rfl ?_
          refine g_iast hx ((σ 0 4).toNat) hR.s2 (by omega) (by omega) (by decide) dX0_silence_52 ?_
          obtain ⟨M_1, e_2⟩ : ∃ M1 : gH, M1 = up M (g 2 0) ((2, 0), aI G 30 (fu (σ 13) (σ 0 4).toNat a)) := ⟨_, rfl⟩
          refine g_M e_2.symm ?_
          have hR_3 : RC G g M_1 (su σ 13 (σ 0 4).toNat a) N lf := by rw [e_2]; exact RC.putS2 hR
          have hF_4 : Fr (fun z => z.1 < 50) M M_1 := by rw [e_2]; exact Fr.ofUp hR.s2 (by simp)
          refine g_aload_n hx 0 dX0_silence_53 rfl rfl ?_
          refine gq87 (v := .ref (g 3 0)) hx rfl dX0_silence_54 hR_3.o rfl ?_
          refine g_aload_n hx 0 dX0_silence_57 rfl rfl ?_
          refine gq89 (v := .int (iI (σ 0 4))) hx rfl dX0_silence_58 hR_3.o rfl ?_
          refine g_iload_n hx 2 dX0_silence_61 rfl rfl ?_
          refine g_iast hx ((σ 0 4).toNat) hR_3.s3 (by omega) (by omega) (by decide) dX0_silence_62 ?_
          obtain ⟨M_5, e_6⟩ : ∃ M1 : gH, M1 = up M_1 (g 3 0) ((3, 0), aI G 30 (fu ((su σ 13 (σ 0 4).toNat a) 14) (σ 0 4).toNat b)) := ⟨_, rfl⟩
          refine g_M e_6.symm ?_
          have hR_7 : RC G g M_5 (su (su σ 13 (σ 0 4).toNat a) 14 (σ 0 4).toNat b) N lf := by rw [e_6]; exact RC.putS3 hR_3
          have hF_8 : Fr (fun z => z.1 < 50) M M_5 := hF_4.tr (by rw [e_6]; exact Fr.ofUp hR_3.s3 (by simp))
          refine g_aload_n hx 0 dX0_silence_63 rfl rfl ?_
          refine gq88 (v := .ref (g 4 0)) hx rfl dX0_silence_64 hR_7.o rfl ?_
          refine g_aload_n hx 0 dX0_silence_67 rfl rfl ?_
          refine gq89 (v := .int (iI (σ 0 4))) hx rfl dX0_silence_68 hR_7.o rfl ?_
          refine g_iload_n hx 3 dX0_silence_71 rfl rfl ?_
          refine g_iast hx ((σ 0 4).toNat) hR_7.s4 (by omega) (by omega) (by decide) dX0_silence_72 ?_
          obtain ⟨M_9, e_10⟩ : ∃ M1 : gH, M1 = up M_5 (g 4 0) ((4, 0), aI G 30 (fu ((su (su σ 13 (σ 0 4).toNat a) 14 (σ 0 4).toNat b) 15) (σ 0 4).toNat c)) := ⟨_, rfl⟩
          refine g_M e_10.symm ?_
          have hR_11 : RC G g M_9 (su (su (su σ 13 (σ 0 4).toNat a) 14 (σ 0 4).toNat b) 15 (σ 0 4).toNat c) N lf := by rw [e_10]; exact RC.putS4 hR_7
          have hF_12 : Fr (fun z => z.1 < 50) M M_9 := hF_8.tr (by rw [e_10]; exact Fr.ofUp hR_7.s4 (by simp))
          refine g_aload_n hx 0 dX0_silence_73 rfl rfl ?_
          refine g_dup hx dX0_silence_74 rfl ?_
          refine gq89 (v := .int (iI (σ 0 4))) hx rfl dX0_silence_75 hR_11.o rfl ?_
          refine g_iconst hx dX0_silence_78 ?_
          refine g_iadd hx dX0_silence_79 ?_
          refine pq89 (fs' := cryF g (su (su (su (su σ 13 (σ 0 4).toNat a) 14 (σ 0 4).toNat b) 15 (σ 0 4).toNat c) 0 4 (σ 0 4 + 1)) lf) hx rfl dX0_silence_80 hR_11.o (Nat.le_of_ble_eq_true rfl) rfl ?_
          obtain ⟨M_13, e_14⟩ : ∃ M1 : gH, M1 = up M_9 (g 0 0) ((0, 0), .inr (0, cryF g (su (su (su (su σ 13 (σ 0 4).toNat a) 14 (σ 0 4).toNat b) 15 (σ 0 4).toNat c) 0 4 (σ 0 4 + 1)) lf)) := ⟨_, rfl⟩
          refine g_M e_14.symm ?_
          have hR_15 : RC G g M_13 (su (su (su (su σ 13 (σ 0 4).toNat a) 14 (σ 0 4).toNat b) 15 (σ 0 4).toNat c) 0 4 (σ 0 4 + 1)) N lf := by rw [e_14]; exact RC.putO hR_11 (fun p hp => by funext q; simp only [su]; rw [if_neg (by omega)])
          have hF_16 : Fr (fun z => z.1 < 50) M M_13 := hF_12.tr (by rw [e_14]; exact Fr.ofUp hR_11.o (by simp))
          refine g_aload_n hx 0 dX0_silence_83 rfl rfl ?_
          refine gq89 (v := .int (iI ((su (su (su (su σ 13 (σ 0 4).toNat a) 14 (σ 0 4).toNat b) 15 (σ 0 4).toNat c) 0 4 (σ 0 4 + 1)) 0 4))) hx rfl dX0_silence_84 hR_15.o rfl ?_
          exact g_iret hx (Nat.zero_le _) (Nat.zero_le _) dX0_silence_87 ⟨congrArg (fun z => some (Value.int (iI z))) (by unfold silR; rw [if_pos (by unfold silOk; omega)]; rfl), ⟨g, lf, rfl, by unfold silT; rw [if_pos (by unfold silOk; omega)]; exact hR_15⟩, hF_16⟩
        ·
          refine g_iconst hx dX0_silence_41 ?_
          exact g_iret hx (Nat.zero_le _) (Nat.zero_le _) dX0_silence_42 ⟨congrArg (fun z => some (Value.int (iI z))) (by unfold silR; rw [if_neg (by unfold silOk; omega)]), ⟨g, lf, rfl, by unfold silT; rw [if_neg (by unfold silOk; omega)]; exact hR⟩, Fr.rf⟩
def tieOk (N : Nat) (a b : Int) : Prop := (0 ≤ a ∧ a < N) ∧ (0 ≤ b ∧ b < N) ∧ a ≠ b
/-- 1: a known pair changes; 2: a new one -/
noncomputable def tieK (σ : sT) (N : Nat) (a b j : Int) : Nat := @ite Nat (tieOk N a b) (Classical.propDecidable _) (if 0 ≤ tie σ a b then (if σ 18 (tie σ a b).toNat = j then 0 else 1) else (if σ 0 5 = 60 then 0 else 2)) 0
noncomputable def tieR (σ : sT) (N : Nat) (a b j : Int) : Int := if tieK σ N a b j = 0 then 0 else 1
noncomputable def tieT (σ : sT) (N : Nat) (a b j : Int) : sT := if tieK σ N a b j = 0 then σ else if tieK σ N a b j = 1 then su σ 18 (tie σ a b).toNat j else su (su (su (su σ 16 (σ 0 5).toNat a) 17 (σ 0 5).toNat b) 18 (σ 0 5).toNat j) 0 5 (σ 0 5 + 1)
theorem kc_tieYY (l : Launch) (G : gG) (g : gA2) (M : gH) (σ : sT) (N : Nat) (lf : Int) (B : Nat) (hI : Iv σ N B) (hR : RC G g M σ N lf) (i j : Nat) (hi : i < N) (hj : j < N) (c : Int) (hc : c = 0 ∨ c = 1) : GMet l yX0_tie (ws_ yX0_tie cX0_tie 5 (some .boolean)) ({ frames := 4, cells := 0, slots := 0, locals := 85 } : Room) G [.ref (g 0 0), .int (iI (i : Int)), .int (iI (j : Int)), .int (iI c)] M (MC G M (g 0 0) (tieR σ N (i : Int) (j : Int) c) (tieT σ N (i : Int) (j : Int) c) N) 0 0 := by
  refine g_start (by decide) (Nat.le_of_ble_eq_true rfl) (fun x hx => ?_)
  have hb0 := hI.1
  refine g_aload_n hx 0 dX0_tie_0 rfl rfl ?_
  refine g_iload_n hx 1 dX0_tie_1 rfl rfl ?_
  refine g_pcallV (rest := []) (na := 1) hx (k_atY l G g M σ N lf B hI hR i (by omega)) hR.o rfl (lw_V q313 q315 qs5 q31 q316) rfl rfl (by decide +kernel) rfl ⟨Nat.le_of_ble_eq_true rfl, Nat.le_of_ble_eq_true rfl⟩ rfl (Nat.le_of_ble_eq_true rfl) dX0_tie_2 ⟨Nat.zero_le _, Nat.zero_le _⟩ ?_
  refine g_ifnull hx dX0_tie_5 ?_
  refine g_aload_n hx 0 dX0_tie_8 rfl rfl ?_
  refine g_iload_n hx 2 dX0_tie_9 rfl rfl ?_
  refine g_pcallV (rest := []) (na := 1) hx (k_atY l G g M σ N lf B hI hR j (by omega)) hR.o rfl (lw_V q313 q315 qs5 q31 q316) rfl rfl (by decide +kernel) rfl ⟨Nat.le_of_ble_eq_true rfl, Nat.le_of_ble_eq_true rfl⟩ rfl (Nat.le_of_ble_eq_true rfl) dX0_tie_10 ⟨Nat.zero_le _, Nat.zero_le _⟩ ?_
  refine g_ifnull hx dX0_tie_13 ?_
  refine g_iload_n hx 1 dX0_tie_16 rfl rfl ?_
  refine g_iload_n hx 2 dX0_tie_17 rfl rfl ?_
  refine g_icmp_ne hx 23 (by omega) (by omega) dX0_tie_18 (by decide) (fun c_18 => ?_) (fun c_18 => ?_)
  ·
    refine g_aload_n hx 0 dX0_tie_23 rfl rfl ?_
    refine g_iload_n hx 1 dX0_tie_24 rfl rfl ?_
    refine g_iload_n hx 2 dX0_tie_25 rfl rfl ?_
    refine g_pcallV (rest := []) (na := 2) hx (kc_tieOf l G g M σ N lf B hI hR (i : Int) (j : Int) (by omega) (by omega)) hR.o rfl (lw_V q359 q361 qs8 q31 q362) rfl rfl (by decide +kernel) rfl ⟨Nat.le_of_ble_eq_true rfl, Nat.le_of_ble_eq_true rfl⟩ rfl (Nat.le_of_ble_eq_true rfl) dX0_tie_26 ⟨Nat.zero_le _, Nat.zero_le _⟩ ?_
    refine g_istore (lv' := [(4, .int (iI (tie σ (i : Int) (j : Int)))), (0, .ref (g 0 0)), (1, .int (iI (i : Int))), (2, .int (iI (j : Int))), (3, .int (iI c))]) hx dX0_tie_29 (by decide) rfl ?_
    have htr := tie_rg σ (i : Int) (j : Int)
    refine g_iload hx 0 dX0_tie_31 rfl ?_
    refine g_if_lt hx 59 (by omega) dX0_tie_33 (by decide) (fun c_33 => ?_) (fun c_33 => ?_)
    ·
      refine g_aload_n hx 1 dX0_tie_59 rfl rfl ?_
      refine gq93 (v := .int (iI (σ 0 5))) hx rfl dX0_tie_60 hR.o rfl ?_
      refine g_bipush hx dX0_tie_63 (by decide) ?_
      refine g_icmp_ne hx 70 (by omega) (by omega) dX0_tie_65 (by decide) (fun c_65 => ?_) (fun c_65 => ?_)
      ·
        refine g_aload_n hx 1 dX0_tie_70 rfl rfl ?_
        refine gq90 (v := .ref (g 5 0)) hx rfl dX0_tie_71 hR.o rfl ?_
        refine g_aload_n hx 1 dX0_tie_74 rfl rfl ?_
        refine gq93 (v := .int (iI (σ 0 5))) hx rfl dX0_tie_75 hR.o rfl ?_
        refine g_iload_n hx 2 dX0_tie_78 rfl rfl ?_
        refine g_iast hx ((σ 0 5).toNat) hR.t5 (by omega) (by omega) (by decide) dX0_tie_79 ?_
        obtain ⟨M_1, e_2⟩ : ∃ M1 : gH, M1 = up M (g 5 0) ((5, 0), aI G 60 (fu (σ 16) (σ 0 5).toNat (i : Int))) := ⟨_, rfl⟩
        refine g_M e_2.symm ?_
        have hR_3 : RC G g M_1 (su σ 16 (σ 0 5).toNat (i : Int)) N lf := by rw [e_2]; exact RC.putT5 hR
        have hF_4 : Fr (fun z => z.1 < 50) M M_1 := by rw [e_2]; exact Fr.ofUp hR.t5 (by simp)
        refine g_aload_n hx 1 dX0_tie_80 rfl rfl ?_
        refine gq91 (v := .ref (g 6 0)) hx rfl dX0_tie_81 hR_3.o rfl ?_
        refine g_aload_n hx 1 dX0_tie_84 rfl rfl ?_
        refine gq93 (v := .int (iI (σ 0 5))) hx rfl dX0_tie_85 hR_3.o rfl ?_
        refine g_iload_n hx 3 dX0_tie_88 rfl rfl ?_
        refine g_iast hx ((σ 0 5).toNat) hR_3.t6 (by omega) (by omega) (by decide) dX0_tie_89 ?_
        obtain ⟨M_5, e_6⟩ : ∃ M1 : gH, M1 = up M_1 (g 6 0) ((6, 0), aI G 60 (fu ((su σ 16 (σ 0 5).toNat (i : Int)) 17) (σ 0 5).toNat (j : Int))) := ⟨_, rfl⟩
        refine g_M e_6.symm ?_
        have hR_7 : RC G g M_5 (su (su σ 16 (σ 0 5).toNat (i : Int)) 17 (σ 0 5).toNat (j : Int)) N lf := by rw [e_6]; exact RC.putT6 hR_3
        have hF_8 : Fr (fun z => z.1 < 50) M M_5 := hF_4.tr (by rw [e_6]; exact Fr.ofUp hR_3.t6 (by simp))
        refine g_aload_n hx 1 dX0_tie_90 rfl rfl ?_
        refine gq92 (v := .ref (g 7 0)) hx rfl dX0_tie_91 hR_7.o rfl ?_
        refine g_aload_n hx 1 dX0_tie_94 rfl rfl ?_
        refine gq93 (v := .int (iI (σ 0 5))) hx rfl dX0_tie_95 hR_7.o rfl ?_
        refine g_iload_n hx 4 dX0_tie_98 rfl rfl ?_
        refine g_zast hx ((σ 0 5).toNat) hR_7.t7 (by omega) (by omega) (by decide) (by omega) dX0_tie_99 ?_
        obtain ⟨M_9, e_10⟩ : ∃ M1 : gH, M1 = up M_5 (g 7 0) ((7, 0), aZ G 60 (fu ((su (su σ 16 (σ 0 5).toNat (i : Int)) 17 (σ 0 5).toNat (j : Int)) 18) (σ 0 5).toNat c)) := ⟨_, rfl⟩
        refine g_M e_10.symm ?_
        have hR_11 : RC G g M_9 (su (su (su σ 16 (σ 0 5).toNat (i : Int)) 17 (σ 0 5).toNat (j : Int)) 18 (σ 0 5).toNat c) N lf := by rw [e_10]; exact RC.putT7 hR_7
        have hF_12 : Fr (fun z => z.1 < 50) M M_9 := hF_8.tr (by rw [e_10]; exact Fr.ofUp hR_7.t7 (by simp))
        refine g_aload_n hx 1 dX0_tie_100 rfl rfl ?_
        refine g_dup hx dX0_tie_101 rfl ?_
        refine gq93 (v := .int (iI (σ 0 5))) hx rfl dX0_tie_102 hR_11.o rfl ?_
        refine g_iconst hx dX0_tie_105 ?_
        refine g_iadd hx dX0_tie_106 ?_
        refine pq93 (fs' := cryF g (su (su (su (su σ 16 (σ 0 5).toNat (i : Int)) 17 (σ 0 5).toNat (j : Int)) 18 (σ 0 5).toNat c) 0 5 (σ 0 5 + 1)) lf) hx rfl dX0_tie_107 hR_11.o (Nat.le_of_ble_eq_true rfl) rfl ?_
        obtain ⟨M_13, e_14⟩ : ∃ M1 : gH, M1 = up M_9 (g 0 0) ((0, 0), .inr (0, cryF g (su (su (su (su σ 16 (σ 0 5).toNat (i : Int)) 17 (σ 0 5).toNat (j : Int)) 18 (σ 0 5).toNat c) 0 5 (σ 0 5 + 1)) lf)) := ⟨_, rfl⟩
        refine g_M e_14.symm ?_
        have hR_15 : RC G g M_13 (su (su (su (su σ 16 (σ 0 5).toNat (i : Int)) 17 (σ 0 5).toNat (j : Int)) 18 (σ 0 5).toNat c) 0 5 (σ 0 5 + 1)) N lf := by rw [e_14]; exact RC.putO hR_11 (fun p hp => by funext q; simp only [su]; rw [if_neg (by omega)])
        have hF_16 : Fr (fun z => z.1 < 50) M M_13 := hF_12.tr (by rw [e_14]; exact Fr.ofUp hR_11.o (by simp))
        refine g_iconst hx dX0_tie_110 ?_
        have hk2 : tieK σ N (i : Int) (j : Int) c = 2 := by unfold tieK; rw [if_pos (by unfold tieOk; omega), if_neg (by omega), if_neg (by omega)]
        exact g_zret hx (by decide) (Nat.zero_le _) (Nat.zero_le _) dX0_tie_111 ⟨congrArg (fun z => some (Value.int (iI z))) (by unfold tieR; rw [hk2]; rfl), ⟨g, lf, rfl, by unfold tieT; rw [hk2]; exact hR_15⟩, hF_16⟩
      ·
        refine g_iconst hx dX0_tie_68 ?_
        have hk0 : tieK σ N (i : Int) (j : Int) c = 0 := by unfold tieK; rw [if_pos (by unfold tieOk; omega), if_neg (by omega), if_pos (by omega)]
        exact g_zret hx (by decide) (Nat.zero_le _) (Nat.zero_le _) dX0_tie_69 ⟨congrArg (fun z => some (Value.int (iI z))) (by unfold tieR; rw [if_pos hk0]), ⟨g, lf, rfl, by unfold tieT; rw [if_pos hk0]; exact hR⟩, Fr.rf⟩
    ·
      have htl := tie_lt (show 0 ≤ tie σ (i : Int) (j : Int) by omega)
      have hv18 := (hI.2.2.2 _ htl.2.2).2.2.2.2
      refine g_aload_n hx 1 dX0_tie_36 rfl rfl ?_
      refine gq92 (v := .ref (g 7 0)) hx rfl dX0_tie_37 hR.o rfl ?_
      refine g_iload hx 0 dX0_tie_40 rfl ?_
      refine g_zald hx ((tie σ (i : Int) (j : Int)).toNat) (v := σ 18 ((tie σ (i : Int) (j : Int)).toNat)) hR.t7 htl.2.1.symm (by omega) (by decide) rfl dX0_tie_42 ?_
      refine g_iload_n hx 4 dX0_tie_43 rfl rfl ?_
      refine g_icmp_ne hx 49 (by omega) (by omega) dX0_tie_44 (by decide) (fun c_44 => ?_) (fun c_44 => ?_)
      ·
        refine g_aload_n hx 1 dX0_tie_49 rfl rfl ?_
        refine gq92 (v := .ref (g 7 0)) hx rfl dX0_tie_50 hR.o rfl ?_
        refine g_iload hx 0 dX0_tie_53 rfl ?_
        refine g_iload_n hx 4 dX0_tie_55 rfl rfl ?_
        refine g_zast hx ((tie σ (i : Int) (j : Int)).toNat) hR.t7 htl.2.1.symm (by omega) (by decide) (by omega) dX0_tie_56 ?_
        obtain ⟨M_17, e_18⟩ : ∃ M1 : gH, M1 = up M (g 7 0) ((7, 0), aZ G 60 (fu (σ 18) (tie σ (i : Int) (j : Int)).toNat c)) := ⟨_, rfl⟩
        refine g_M e_18.symm ?_
        have hR_19 : RC G g M_17 (su σ 18 (tie σ (i : Int) (j : Int)).toNat c) N lf := by rw [e_18]; exact RC.putT7 hR
        have hF_20 : Fr (fun z => z.1 < 50) M M_17 := by rw [e_18]; exact Fr.ofUp hR.t7 (by simp)
        refine g_iconst hx dX0_tie_57 ?_
        have hk1 : tieK σ N (i : Int) (j : Int) c = 1 := by unfold tieK; rw [if_pos (by unfold tieOk; omega), if_pos (by omega), if_neg (by omega)]
        exact g_zret hx (by decide) (Nat.zero_le _) (Nat.zero_le _) dX0_tie_58 ⟨congrArg (fun z => some (Value.int (iI z))) (by unfold tieR; rw [hk1]; rfl), ⟨g, lf, rfl, by unfold tieT; rw [hk1]; exact hR_19⟩, hF_20⟩
      ·
        refine g_iconst hx dX0_tie_47 ?_
        have hk0 : tieK σ N (i : Int) (j : Int) c = 0 := by unfold tieK; rw [if_pos (by unfold tieOk; omega), if_pos (by omega), if_pos (by omega)]
        exact g_zret hx (by decide) (Nat.zero_le _) (Nat.zero_le _) dX0_tie_48 ⟨congrArg (fun z => some (Value.int (iI z))) (by unfold tieR; rw [if_pos hk0]), ⟨g, lf, rfl, by unfold tieT; rw [if_pos hk0]; exact hR⟩, Fr.rf⟩
  ·
    refine g_iconst hx dX0_tie_21 ?_
    have hk0 : tieK σ N (i : Int) (j : Int) c = 0 := by unfold tieK; rw [if_neg (by unfold tieOk; omega)]
    exact g_zret hx (by decide) (Nat.zero_le _) (Nat.zero_le _) dX0_tie_22 ⟨congrArg (fun z => some (Value.int (iI z))) (by unfold tieR; rw [if_pos hk0]), ⟨g, lf, rfl, by unfold tieT; rw [if_pos hk0]; exact hR⟩, Fr.rf⟩
theorem kc_tieYN (l : Launch) (G : gG) (g : gA2) (M : gH) (σ : sT) (N : Nat) (lf : Int) (B : Nat) (hI : Iv σ N B) (hR : RC G g M σ N lf) (i : Nat) (hi : i < N) (b : Int) (hb : -2147483648 ≤ b ∧ b ≤ 2147483647) (hn : ¬ (0 ≤ b ∧ b < N)) (c : Int) (hc : c = 0 ∨ c = 1) : GMet l yX0_tie (ws_ yX0_tie cX0_tie 5 (some .boolean)) ({ frames := 4, cells := 0, slots := 0, locals := 85 } : Room) G [.ref (g 0 0), .int (iI (i : Int)), .int (iI b), .int (iI c)] M (MC G M (g 0 0) (tieR σ N (i : Int) b c) (tieT σ N (i : Int) b c) N) 0 0 := by
  refine g_start (by decide) (Nat.le_of_ble_eq_true rfl) (fun x hx => ?_)
  have hb0 := hI.1
  refine g_aload_n hx 0 dX0_tie_0 rfl rfl ?_
  refine g_iload_n hx 1 dX0_tie_1 rfl rfl ?_
  refine g_pcallV (rest := []) (na := 1) hx (k_atY l G g M σ N lf B hI hR i (by omega)) hR.o rfl (lw_V q313 q315 qs5 q31 q316) rfl rfl (by decide +kernel) rfl ⟨Nat.le_of_ble_eq_true rfl, Nat.le_of_ble_eq_true rfl⟩ rfl (Nat.le_of_ble_eq_true rfl) dX0_tie_2 ⟨Nat.zero_le _, Nat.zero_le _⟩ ?_
  refine g_ifnull hx dX0_tie_5 ?_
  refine g_aload_n hx 0 dX0_tie_8 rfl rfl ?_
  refine g_iload_n hx 2 dX0_tie_9 rfl rfl ?_
  refine g_pcallV (rest := []) (na := 1) hx (k_atN l G g M σ N lf B hI hR b (by omega) (by omega)) hR.o rfl (lw_V q313 q315 qs5 q31 q316) rfl rfl (by decide +kernel) rfl ⟨Nat.le_of_ble_eq_true rfl, Nat.le_of_ble_eq_true rfl⟩ rfl (Nat.le_of_ble_eq_true rfl) dX0_tie_10 ⟨Nat.zero_le _, Nat.zero_le _⟩ ?_
  refine g_ifnullN hx 21 dX0_tie_13 (by decide) ?_
  refine g_iconst hx dX0_tie_21 ?_
  have hk0 : tieK σ N (i : Int) b c = 0 := by unfold tieK; rw [if_neg (by unfold tieOk; omega)]
  exact g_zret hx (by decide) (Nat.zero_le _) (Nat.zero_le _) dX0_tie_22 ⟨congrArg (fun z => some (Value.int (iI z))) (by unfold tieR; rw [if_pos hk0]), ⟨g, lf, rfl, by unfold tieT; rw [if_pos hk0]; exact hR⟩, Fr.rf⟩
theorem kc_tieN (l : Launch) (G : gG) (g : gA2) (M : gH) (σ : sT) (N : Nat) (lf : Int) (B : Nat) (hI : Iv σ N B) (hR : RC G g M σ N lf) (a b : Int) (ha : -2147483648 ≤ a ∧ a ≤ 2147483647) (hn : ¬ (0 ≤ a ∧ a < N)) (c : Int) (hc : c = 0 ∨ c = 1) : GMet l yX0_tie (ws_ yX0_tie cX0_tie 5 (some .boolean)) ({ frames := 4, cells := 0, slots := 0, locals := 85 } : Room) G [.ref (g 0 0), .int (iI a), .int (iI b), .int (iI c)] M (MC G M (g 0 0) (tieR σ N a b c) (tieT σ N a b c) N) 0 0 := by
  refine g_start (by decide) (Nat.le_of_ble_eq_true rfl) (fun x hx => ?_)
  have hb0 := hI.1
  refine g_aload_n hx 0 dX0_tie_0 rfl rfl ?_
  refine g_iload_n hx 1 dX0_tie_1 rfl rfl ?_
  refine g_pcallV (rest := []) (na := 1) hx (k_atN l G g M σ N lf B hI hR a (by omega) (by omega)) hR.o rfl (lw_V q313 q315 qs5 q31 q316) rfl rfl (by decide +kernel) rfl ⟨Nat.le_of_ble_eq_true rfl, Nat.le_of_ble_eq_true rfl⟩ rfl (Nat.le_of_ble_eq_true rfl) dX0_tie_2 ⟨Nat.zero_le _, Nat.zero_le _⟩ ?_
  refine g_ifnullN hx 21 dX0_tie_5 (by decide) ?_
  refine g_iconst hx dX0_tie_21 ?_
  have hk0 : tieK σ N a b c = 0 := by unfold tieK; rw [if_neg (by unfold tieOk; omega)]
  exact g_zret hx (by decide) (Nat.zero_le _) (Nat.zero_le _) dX0_tie_22 ⟨congrArg (fun z => some (Value.int (iI z))) (by unfold tieR; rw [if_pos hk0]), ⟨g, lf, rfl, by unfold tieT; rw [if_pos hk0]; exact hR⟩, Fr.rf⟩
