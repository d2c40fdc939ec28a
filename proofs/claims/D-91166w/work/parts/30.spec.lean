/-! THE COMMON STATE: numbers by kind and place, and the class' picture of it -/
set_option maxRecDepth 100000
abbrev sT : Type := Nat → Nat → Int
/-- one place changed -/
def su (σ : sT) (a b : Nat) (v : Int) : sT := fun p q => if p = a ∧ q = b then v else σ p q
theorem su_s {σ : sT} {a b : Nat} {v : Int} : su σ a b v a b = v := by simp [su]
theorem su_n {σ : sT} {a b p q : Nat} {v : Int} (h : ¬ (p = a ∧ q = b)) : su σ a b v p q = σ p q := by simp [su, h]
theorem su_k {σ : sT} {a b p : Nat} {v : Int} (h : p ≠ a) : su σ a b v p = σ p := by funext q; simp [su, h]
theorem su_f {σ : sT} {a b : Nat} {v : Int} : su σ a b v a = fu (σ a) b v := by funext q; simp [su, fu]
/-! counting, searching -/
noncomputable def cn (P : Nat → Prop) : Nat → Int
  | 0 => 0
  | k + 1 => cn P k + bz (P k)
theorem cn_rg (P : Nat → Prop) (k : Nat) : 0 ≤ cn P k ∧ cn P k ≤ k := by
  induction k with
  | zero => exact ⟨Int.le_refl _, Int.le_refl _⟩
  | succ k ih =>
    have := bz_rg (P k)
    simp only [cn]
    omega
theorem cn_c {P P' : Nat → Prop} (k : Nat) (h : ∀ i, i < k → (P i ↔ P' i)) : cn P k = cn P' k := by
  induction k with
  | zero => rfl
  | succ k ih => simp only [cn]; rw [ih (fun i hi => h i (by omega)), bz_c (h k (by omega))]
theorem cn_le {P P' : Nat → Prop} (k : Nat) (h : ∀ i, i < k → P i → P' i) : cn P k ≤ cn P' k := by
  induction k with
  | zero => exact Int.le_refl _
  | succ k ih =>
    have h1 := ih (fun i hi => h i (by omega))
    have h2 : bz (P k) ≤ bz (P' k) := by
      by_cases p : P k
      · rw [bz_t p, bz_t (h k (by omega) p)]; exact Int.le_refl _
      · rw [bz_f p]; exact (bz_rg _).1
    simp only [cn]
    omega
theorem cn_0 {P : Nat → Prop} (k : Nat) (h : ∀ i, i < k → ¬ P i) : cn P k = 0 := by
  induction k with
  | zero => rfl
  | succ k ih => simp only [cn]; rw [ih (fun i hi => h i (by omega)), bz_f (h k (by omega))]; rfl
theorem cn_pos {P : Nat → Prop} {k i : Nat} (hi : i < k) (h : P i) : 1 ≤ cn P k := by
  induction k with
  | zero => omega
  | succ k ih =>
    simp only [cn]
    have h2 := bz_rg (P k)
    have h3 := cn_rg P k
    by_cases e : i = k
    · subst e; rw [bz_t h]; omega
    · have := ih (by omega)
      omega
theorem cn_or {P P' P'' : Nat → Prop} (k : Nat) (h : ∀ i, i < k → (P'' i ↔ P i ∨ P' i)) (hd : ∀ i, i < k → ¬ (P i ∧ P' i)) : cn P'' k = cn P k + cn P' k := by
  induction k with
  | zero => rfl
  | succ k ih =>
    simp only [cn]
    rw [ih (fun i hi => h i (by omega)) (fun i hi => hd i (by omega)), bz_c (h k (by omega))]
    have h2 := hd k (by omega)
    by_cases p : P k
    · have p' : ¬ P' k := fun z => h2 ⟨p, z⟩
      rw [bz_t (Or.inl p), bz_t p, bz_f p']; omega
    · by_cases p' : P' k
      · rw [bz_t (Or.inr p'), bz_f p, bz_t p']; omega
      · rw [bz_f (fun z => z.elim p p'), bz_f p, bz_f p']; omega
/-- the first place with P below k, or -1 -/
noncomputable def fl (P : Nat → Prop) : Nat → Int
  | 0 => -1
  | k + 1 => @ite Int (0 ≤ fl P k) (Classical.propDecidable _) (fl P k) (@ite Int (P k) (Classical.propDecidable _) (k : Int) (-1))
theorem fl_no {P : Nat → Prop} (k : Nat) (h : ∀ j, j < k → ¬ P j) : fl P k = -1 := by
  induction k with
  | zero => rfl
  | succ k ih =>
    have h1 := ih (fun j hj => h j (by omega))
    simp only [fl]
    rw [if_neg (by rw [h1]; omega), if_neg (h k (by omega))]
theorem fl_at {P : Nat → Prop} {k j : Nat} (hj : j < k) (h : ∀ i, i < j → ¬ P i) (hp : P j) : fl P k = (j : Int) := by
  induction k with
  | zero => omega
  | succ k ih =>
    simp only [fl]
    by_cases e : j = k
    · subst e
      rw [if_neg (by rw [fl_no j h]; omega), if_pos hp]
    · have := ih (by omega)
      rw [if_pos (by rw [this]; omega), this]
theorem fl_c {P P' : Nat → Prop} (k : Nat) (h : ∀ j, j < k → (P j ↔ P' j)) : fl P k = fl P' k := by
  induction k with
  | zero => rfl
  | succ k ih =>
    have h1 := ih (fun j hj => h j (by omega))
    simp only [fl, h1]
    by_cases p : P k
    · have p' := (h k (by omega)).mp p
      simp only [p, p']
    · have p' : ¬ P' k := fun z => p ((h k (by omega)).mpr z)
      simp only [p, p']
theorem fl_cases (P : Nat → Prop) (k : Nat) : (fl P k = -1 ∧ ∀ j, j < k → ¬ P j) ∨ ∃ j, j < k ∧ fl P k = (j : Int) ∧ P j ∧ ∀ i, i < j → ¬ P i := by
  induction k with
  | zero => exact Or.inl ⟨rfl, fun j hj => by omega⟩
  | succ k ih =>
    rcases ih with ⟨h1, h2⟩ | ⟨j, h1, h2, h3, h4⟩
    · by_cases p : P k
      · exact Or.inr ⟨k, by omega, fl_at (by omega) h2 p, p, h2⟩
      · have h3 : ∀ j, j < k + 1 → ¬ P j := by
          intro j hj
          by_cases e : j = k
          · subst e; exact p
          · exact h2 j (by omega)
        exact Or.inl ⟨fl_no _ h3, h3⟩
    · exact Or.inr ⟨j, by omega, fl_at (by omega) h4 h3, h3, h4⟩
/-! the state's own words. 0: now, cap, enough, tries, silences, ties; of an alarm 1 came, 2 source, 3 thing, 4 marks, 5 worth, 6 silenced, 7 capped, 8 repeated, 9 latest, 10 how, 11 said true, 12 said false; 13, 14, 15 a silence's source, from, to; 16, 17, 18 a tie's two and whether it joins -/
def okA (σ : sT) (i : Nat) : Prop := 0 ≤ σ 1 i ∧ σ 1 i ≤ σ 0 0 ∧ 0 ≤ σ 2 i ∧ σ 2 i ≤ 9 ∧ 0 ≤ σ 3 i ∧ σ 3 i ≤ 39 ∧ 0 ≤ σ 4 i ∧ σ 4 i ≤ 4095 ∧ 1 ≤ σ 5 i ∧ σ 5 i ≤ 100 ∧ (σ 6 i = 0 ∨ σ 6 i = 1) ∧ (σ 7 i = 0 ∨ σ 7 i = 1) ∧ 0 ≤ σ 8 i ∧ σ 8 i ≤ 64 ∧ σ 1 i ≤ σ 9 i ∧ σ 9 i ≤ σ 0 0 ∧ 0 ≤ σ 10 i ∧ σ 10 i ≤ 2
def okS (σ : sT) (k : Nat) : Prop := 0 ≤ σ 13 k ∧ σ 13 k ≤ 9 ∧ 0 ≤ σ 14 k ∧ σ 14 k ≤ 10000 ∧ 0 ≤ σ 15 k ∧ σ 15 k ≤ 10000
def okT (σ : sT) (N k : Nat) : Prop := 0 ≤ σ 16 k ∧ σ 16 k < N ∧ 0 ≤ σ 17 k ∧ σ 17 k < N ∧ (σ 18 k = 0 ∨ σ 18 k = 1)
/-- the numbers' bounds; B: how many alarms, and repeats, at most -/
def Iv (σ : sT) (N B : Nat) : Prop := (0 ≤ σ 0 0 ∧ σ 0 0 ≤ 10000 ∧ 1 ≤ σ 0 1 ∧ σ 0 1 ≤ 50 ∧ 1 ≤ σ 0 2 ∧ σ 0 2 ≤ 20 ∧ 0 ≤ σ 0 3 ∧ σ 0 3 ≤ 5 ∧ 0 ≤ σ 0 4 ∧ σ 0 4 ≤ 30 ∧ 0 ≤ σ 0 5 ∧ σ 0 5 ≤ 60 ∧ N ≤ B ∧ B ≤ 64) ∧ (∀ i, i < N → okA σ i ∧ σ 8 i ≤ B) ∧ (∀ k : Nat, (k : Int) < σ 0 4 → okS σ k) ∧ (∀ k : Nat, (k : Int) < σ 0 5 → okT σ N k)
/-- heard; waiting -/
def hrd (σ : sT) (i : Nat) : Prop := σ 6 i = 0 ∧ σ 7 i = 0
def wtg (σ : sT) (i : Nat) : Prop := hrd σ i ∧ σ 10 i = 0
/-- on the node of marks m at depth d -/
def atD (σ : sT) (i d : Nat) (m : Int) : Prop := σ 4 i / ((2 ^ (3 * (4 - d)) : Nat) : Int) = m / ((2 ^ (3 * (4 - d)) : Nat) : Int)
def kd (w : Nat) (h : Int) : Prop := (w = 0 ∧ h = 1) ∨ (w = 1 ∧ h ≠ 0) ∨ (w = 2 ∧ h = 0)
/-- how many of kind w are on the node -/
noncomputable def nod (σ : sT) (N d : Nat) (m : Int) (w : Nat) : Int := cn (fun i => atD σ i d m ∧ kd w (σ 10 i)) N
theorem nod_rg (σ : sT) (N d : Nat) (m : Int) (w : Nat) : 0 ≤ nod σ N d m w ∧ nod σ N d m w ≤ N := cn_rg _ _
theorem nod_01 (σ : sT) (N d : Nat) (m : Int) : nod σ N d m 0 ≤ nod σ N d m 1 := cn_le _ (fun i hi h => ⟨h.1, by rcases h.2 with ⟨-, h⟩ | ⟨h, -⟩ | ⟨h, -⟩ <;> first | exact Or.inr (Or.inl ⟨rfl, by omega⟩) | omega⟩)
/-- the depth of an alarm's node -/
noncomputable def dep (σ : sT) (N i : Nat) : Nat := if σ 0 2 ≤ nod σ N 4 (σ 4 i) 1 then 4 else if σ 0 2 ≤ nod σ N 3 (σ 4 i) 1 then 3 else if σ 0 2 ≤ nod σ N 2 (σ 4 i) 1 then 2 else if σ 0 2 ≤ nod σ N 1 (σ 4 i) 1 then 1 else 0
theorem dep_le (σ : sT) (N i : Nat) : dep σ N i ≤ 4 := by
  unfold dep
  split
  · omega
  · split
    · omega
    · split
      · omega
      · split <;> omega
noncomputable def sco (σ : sT) (N i : Nat) : Int := if nod σ N (dep σ N i) (σ 4 i) 1 = 0 then 500 * σ 5 i else 1000 * σ 5 i * nod σ N (dep σ N i) (σ 4 i) 0 / nod σ N (dep σ N i) (σ 4 i) 1
theorem sco_rg {σ : sT} {N i : Nat} (h : 1 ≤ σ 5 i ∧ σ 5 i ≤ 100) : 0 ≤ sco σ N i ∧ sco σ N i ≤ 100000 := by
  unfold sco
  have h0 := nod_rg σ N (dep σ N i) (σ 4 i) 0
  have h1 := nod_rg σ N (dep σ N i) (σ 4 i) 1
  have h2 := nod_01 σ N (dep σ N i) (σ 4 i)
  generalize nod σ N (dep σ N i) (σ 4 i) 0 = t at *
  generalize nod σ N (dep σ N i) (σ 4 i) 1 = s at *
  split
  · omega
  · have hs : 0 < s := by omega
    have ha : 0 ≤ 1000 * σ 5 i * t := Int.mul_nonneg (by omega) (by omega)
    have hb : 1000 * σ 5 i * t ≤ 100000 * s := by
      have e1 : 1000 * σ 5 i * t ≤ 1000 * σ 5 i * s := Int.mul_le_mul_of_nonneg_left h2 (by omega)
      have e2 : 1000 * σ 5 i * s ≤ 100000 * s := Int.mul_le_mul_of_nonneg_right (by omega) (by omega)
      omega
    exact ⟨Int.ediv_nonneg ha (by omega), Int.ediv_le_of_le_mul hs hb⟩
/-- the tie of two alarms: its place, or -1 -/
def tp (σ : sT) (a b : Int) (k : Nat) : Prop := (σ 16 k = a ∧ σ 17 k = b) ∨ (σ 16 k = b ∧ σ 17 k = a)
noncomputable def tie (σ : sT) (a b : Int) : Int := fl (tp σ a b) (σ 0 5).toNat
/-- two alarms hang together -/
def tied (σ : sT) (i j : Nat) : Prop := (0 ≤ tie σ i j ∧ σ 18 (tie σ i j).toNat = 1) ∨ (tie σ i j < 0 ∧ σ 3 i = σ 3 j ∧ ((σ 1 i - σ 1 j).natAbs : Int) ≤ 20)
/-! THE CLASS' PICTURE. g: its cells' addresses by kind and place -/
abbrev gA2 : Type := Nat → Nat → Nat
abbrev cryF (g : gA2) (σ : sT) (lf : Int) : List Value := [.int (iI (σ 0 0)), .int (iI (σ 0 1)), .int (iI (σ 0 2)), .int (iI (σ 0 3)), .ref (g 1 0), .ref (g 2 0), .ref (g 3 0), .ref (g 4 0), .int (iI (σ 0 4)), .ref (g 5 0), .ref (g 6 0), .ref (g 7 0), .int (iI (σ 0 5)), .ref (g 20 0), .ref (g 21 0), .ref (g 22 0), .ref (g 23 0), .ref (g 24 0), .int (iI lf)]
abbrev alF (g : gA2) (σ : sT) (i : Nat) : List Value := [.int (iI (i : Int)), .int (iI (σ 1 i)), .int (iI (σ 2 i)), .int (iI (σ 3 i)), .int (iI (σ 4 i)), .int (iI (σ 5 i)), .int (iI (σ 6 i)), .int (iI (σ 7 i)), .ref (g 11 i), .int (iI (σ 8 i)), .int (iI (σ 9 i)), .int (iI (σ 10 i))]
/-- the bits of those among the first n verdicts that are b -/
def msk (lk : Nat → Nat) (vb : Nat → Int) (b : Int) : Nat → Nat
  | 0 => 0
  | j + 1 => if vb j = b then msk lk vb b j ||| 2 ^ lk j else msk lk vb b j
/-- an alarm's verdicts -/
def VD (G : gG) (g : gA2) (M : gH) (σ : sT) (i : Nat) : Prop := ∃ (nv : Nat) (va lk : Nat → Nat) (vb : Nat → Int), AL G M (g 11 i) (11, i) (12, i) nv va ∧ (∀ j, j < nv → M (va j) = some ((13, i), .inr (3, [.int (iI (lk j : Int)), .int (iI (vb j))]))) ∧ (∀ j, j < nv → lk j < 10 ∧ (vb j = 0 ∨ vb j = 1)) ∧ (∀ j j', j < nv → j' < nv → lk j = lk j' → j = j') ∧ σ 11 i = (msk lk vb 1 nv : Int) ∧ σ 12 i = (msk lk vb 0 nv : Int)
/-- what stays while cases and plans are made -/
def CO (G : gG) (g : gA2) (M : gH) (σ : sT) (N : Nat) : Prop := AL G M (g 1 0) (1, 0) (1, 1) N (g 10) ∧ (∀ i, i < N → M (g 10 i) = some ((10, i), .inr (1, alF g σ i))) ∧ (∀ i, i < N → VD G g M σ i) ∧ M (g 2 0) = some ((2, 0), aI G 30 (σ 13)) ∧ M (g 3 0) = some ((3, 0), aI G 30 (σ 14)) ∧ M (g 4 0) = some ((4, 0), aI G 30 (σ 15)) ∧ M (g 5 0) = some ((5, 0), aI G 60 (σ 16)) ∧ M (g 6 0) = some ((6, 0), aI G 60 (σ 17)) ∧ M (g 7 0) = some ((7, 0), aZ G 60 (σ 18))
/-- a list whose elements are of no account -/
def SL (G : gG) (M : gH) (L : Nat) (lab labE : gL) : Prop := ∃ (n : Nat) (f : Nat → Nat), AL G M L lab labE n f
/-- what is made anew -/
def SC (G : gG) (g : gA2) (M : gH) : Prop := SL G M (g 20 0) (20, 0) (20, 1) ∧ (∃ cf : Nat → Int, M (g 21 0) = some ((21, 0), aI G 200 cf)) ∧ SL G M (g 22 0) (22, 0) (22, 1) ∧ SL G M (g 23 0) (23, 0) (23, 1) ∧ M (g 24 0) = some ((24, 0), aG G 13 (fun i => some (g 25 i))) ∧ ∀ i, i < 13 → ∃ row : Nat → Int, M (g 25 i) = some ((25, i), aI G 301 row)
def RC (G : gG) (g : gA2) (M : gH) (σ : sT) (N : Nat) (lf : Int) : Prop := M (g 0 0) = some ((0, 0), .inr (0, cryF g σ lf)) ∧ CO G g M σ N ∧ SC G g M
section RCp
variable {G : gG} {g : gA2} {M : gH} {σ : sT} {N : Nat} {lf : Int}
theorem RC.o (h : RC G g M σ N lf) : M (g 0 0) = some ((0, 0), .inr (0, cryF g σ lf)) := h.1
theorem RC.ls (h : RC G g M σ N lf) : AL G M (g 1 0) (1, 0) (1, 1) N (g 10) := h.2.1.1
theorem RC.al (h : RC G g M σ N lf) {i : Nat} (hi : i < N) : M (g 10 i) = some ((10, i), .inr (1, alF g σ i)) := h.2.1.2.1 i hi
theorem RC.vd (h : RC G g M σ N lf) {i : Nat} (hi : i < N) : VD G g M σ i := h.2.1.2.2.1 i hi
theorem RC.s2 (h : RC G g M σ N lf) : M (g 2 0) = some ((2, 0), aI G 30 (σ 13)) := h.2.1.2.2.2.1
theorem RC.s3 (h : RC G g M σ N lf) : M (g 3 0) = some ((3, 0), aI G 30 (σ 14)) := h.2.1.2.2.2.2.1
theorem RC.s4 (h : RC G g M σ N lf) : M (g 4 0) = some ((4, 0), aI G 30 (σ 15)) := h.2.1.2.2.2.2.2.1
theorem RC.t5 (h : RC G g M σ N lf) : M (g 5 0) = some ((5, 0), aI G 60 (σ 16)) := h.2.1.2.2.2.2.2.2.1
theorem RC.t6 (h : RC G g M σ N lf) : M (g 6 0) = some ((6, 0), aI G 60 (σ 17)) := h.2.1.2.2.2.2.2.2.2.1
theorem RC.t7 (h : RC G g M σ N lf) : M (g 7 0) = some ((7, 0), aZ G 60 (σ 18)) := h.2.1.2.2.2.2.2.2.2.2
end RCp
theorem AL.fr {G : gG} {M M' : gH} {L : Nat} {lab labE : gL} {n : Nat} {f : Nat → Nat} {P : gL → Prop} (h : AL G M L lab labE n f) (hf : Fr P M M') (h1 : ¬ P lab) (h2 : ¬ P labE) : AL G M' L lab labE n f := by
  obtain ⟨mod, E, hL, h⟩ := h
  refine ⟨mod, E, hf _ _ hL h1, ?_⟩
  rcases h with h | ⟨cap, r, hE, h⟩
  · exact Or.inl h
  · exact Or.inr ⟨cap, r, hf _ _ hE h2, h⟩
theorem VD.fr {G : gG} {g : gA2} {M M' : gH} {σ σ' : sT} {i : Nat} {P : gL → Prop} (h : VD G g M σ i) (hf : Fr P M M') (h1 : ¬ P (11, i)) (h2 : ¬ P (12, i)) (h3 : ¬ P (13, i)) (e1 : σ' 11 i = σ 11 i) (e2 : σ' 12 i = σ 12 i) : VD G g M' σ' i := by
  obtain ⟨nv, va, lk, vb, a1, a2, a3, a4, a5, a6⟩ := h
  exact ⟨nv, va, lk, vb, a1.fr hf h1 h2, fun j hj => hf _ _ (a2 j hj) h3, a3, a4, e1.trans a5, e2.trans a6⟩
theorem SL.fr {G : gG} {M M' : gH} {L : Nat} {lab labE : gL} {P : gL → Prop} (h : SL G M L lab labE) (hf : Fr P M M') (h1 : ¬ P lab) (h2 : ¬ P labE) : SL G M' L lab labE := by
  obtain ⟨n, f, h⟩ := h
  exact ⟨n, f, h.fr hf h1 h2⟩
/-- the core stays where no core label is touched, and its numbers are the same -/
theorem CO.fr {G : gG} {g : gA2} {M M' : gH} {σ : sT} {N : Nat} {P : gL → Prop} (h : CO G g M σ N) (hf : Fr P M M') (hp : ∀ z : gL, P z → z.1 = 0 ∨ 20 ≤ z.1) : CO G g M' σ N := by
  obtain ⟨a1, a2, a3, a4, a5, a6, a7, a8, a9⟩ := h
  have q : ∀ z : gL, ¬ (z.1 = 0 ∨ 20 ≤ z.1) → ¬ P z := fun z hz hP => hz (hp z hP)
  exact ⟨a1.fr hf (q _ (by simp)) (q _ (by simp)), fun i hi => hf _ _ (a2 i hi) (q _ (by simp)), fun i hi => (a3 i hi).fr hf (q _ (by simp)) (q _ (by simp)) (q _ (by simp)) rfl rfl, hf _ _ a4 (q _ (by simp)), hf _ _ a5 (q _ (by simp)), hf _ _ a6 (q _ (by simp)), hf _ _ a7 (q _ (by simp)), hf _ _ a8 (q _ (by simp)), hf _ _ a9 (q _ (by simp))⟩
theorem SC.fr {G : gG} {g : gA2} {M M' : gH} {P : gL → Prop} (h : SC G g M) (hf : Fr P M M') (hp : ∀ z : gL, P z → z.1 < 20 ∨ 26 ≤ z.1) : SC G g M' := by
  obtain ⟨a1, ⟨cf, a2⟩, a3, a4, a5, a6⟩ := h
  have q : ∀ z : gL, ¬ (z.1 < 20 ∨ 26 ≤ z.1) → ¬ P z := fun z hz hP => hz (hp z hP)
  exact ⟨a1.fr hf (q _ (by simp)) (q _ (by simp)), ⟨cf, hf _ _ a2 (q _ (by simp))⟩, a3.fr hf (q _ (by simp)) (q _ (by simp)), a4.fr hf (q _ (by simp)) (q _ (by simp)), hf _ _ a5 (q _ (by simp)), fun i hi => by obtain ⟨row, hr⟩ := a6 i hi; exact ⟨row, hf _ _ hr (q _ (by simp))⟩⟩
