/-! CASES: which alarms hang together; pure -/
set_option maxRecDepth 100000
/-- two waiting alarms that hang together -/
def ed (σ : sT) (N i j : Nat) : Prop := i < N ∧ j < N ∧ wtg σ i ∧ wtg σ j ∧ ((i < j ∧ tied σ i j) ∨ (j < i ∧ tied σ j i))
theorem ed.symm {σ : sT} {N i j : Nat} (h : ed σ N i j) : ed σ N j i := ⟨h.2.1, h.1, h.2.2.2.1, h.2.2.1, h.2.2.2.2.symm⟩
def Conn (σ : sT) (N i j : Nat) : Prop := ∀ P : Nat → Prop, P i → (∀ u v, P u → ed σ N u v → P v) → P j
theorem Conn.rf {σ : sT} {N i : Nat} : Conn σ N i i := fun _ h _ => h
theorem Conn.tr {σ : sT} {N i j k : Nat} (h1 : Conn σ N i j) (h2 : Conn σ N j k) : Conn σ N i k := fun P h s => h2 P (h1 P h s) s
theorem Conn.of {σ : sT} {N i j : Nat} (h : ed σ N i j) : Conn σ N i j := fun _ p s => s i j p h
/-- labels under way: each waiting alarm's is one that it hangs on, not above it -/
def LI (σ : sT) (N : Nat) (f : Nat → Int) : Prop := ∀ i, i < N → (¬ wtg σ i → f i = -1) ∧ (wtg σ i → ∃ q : Nat, f i = (q : Int) ∧ q ≤ i ∧ wtg σ q ∧ Conn σ N i q)
def IsL (σ : sT) (N : Nat) (f : Nat → Int) : Prop := LI σ N f ∧ ∀ i j, ed σ N i j → f i = f j
theorem IsL.le {σ : sT} {N : Nat} {f f' : Nat → Int} (h : IsL σ N f) (h' : IsL σ N f') {i : Nat} (hi : i < N) (hw : wtg σ i) : f' i ≤ f i := by
  obtain ⟨q, h1, h2, h3, h4⟩ := (h.1 i hi).2 hw
  have e : f' q = f' i := h4 (fun z => f' z = f' i) rfl (fun u v hu hv => by rw [← h'.2 u v hv]; exact hu)
  obtain ⟨q', g1, g2, -⟩ := (h'.1 q (by omega)).2 h3
  omega
theorem IsL.eq {σ : sT} {N : Nat} {f f' : Nat → Int} (h : IsL σ N f) (h' : IsL σ N f') {i : Nat} (hi : i < N) : f i = f' i := by
  by_cases hw : wtg σ i
  · have h1 := h.le h' hi hw
    have h2 := h'.le h hi hw
    omega
  · rw [(h.1 i hi).1 hw, (h'.1 i hi).1 hw]
/-- the labels: of each alarm its case's number, or -1 -/
noncomputable def lab (σ : sT) (N : Nat) : Nat → Int := @dite (Nat → Int) (∃ f, IsL σ N f) (Classical.propDecidable _) (fun h => Classical.choose h) (fun _ _ => 0)
theorem lab_eq {σ : sT} {N : Nat} {f : Nat → Int} (h : IsL σ N f) : ∀ i, i < N → f i = lab σ N i := by
  intro i hi
  have hx : ∃ f, IsL σ N f := ⟨f, h⟩
  have e : lab σ N = Classical.choose hx := by unfold lab; rw [dif_pos hx]
  rw [e]
  exact h.eq (Classical.choose_spec hx) hi
theorem lab_is {σ : sT} {N : Nat} {f : Nat → Int} (h : IsL σ N f) : IsL σ N (lab σ N) := by
  have hx : ∃ f, IsL σ N f := ⟨f, h⟩
  have e : lab σ N = Classical.choose hx := by unfold lab; rw [dif_pos hx]
  rw [e]
  exact Classical.choose_spec hx
theorem LI.rg {σ : sT} {N : Nat} {f : Nat → Int} (h : LI σ N f) {i : Nat} (hi : i < N) : -1 ≤ f i ∧ f i ≤ i := by
  by_cases hw : wtg σ i
  · obtain ⟨q, h1, h2, -⟩ := (h i hi).2 hw
    omega
  · have := (h i hi).1 hw
    omega
theorem LI.w {σ : sT} {N : Nat} {f : Nat → Int} (h : LI σ N f) {i : Nat} (hi : i < N) (h0 : 0 ≤ f i) : wtg σ i := by
  by_cases hw : wtg σ i
  · exact hw
  · have := (h i hi).1 hw
    omega
/-- the start -/
theorem LI.start {σ : sT} {N : Nat} {f : Nat → Int} (h : ∀ i, i < N → f i = @ite Int (wtg σ i) (Classical.propDecidable _) (i : Int) (-1)) : LI σ N f := by
  intro i hi
  have e := h i hi
  refine ⟨fun hw => ?_, fun hw => ?_⟩
  · rw [e, if_neg hw]
  · rw [if_pos hw] at e
    exact ⟨i, e, Nat.le_refl _, hw, Conn.rf⟩
/-- one joining -/
theorem LI.join {σ : sT} {N a b : Nat} {f : Nat → Int} (h : LI σ N f) (hab : a < b) (hb : b < N) (ha0 : 0 ≤ f a) (hb0 : 0 ≤ f b) (ht : tied σ a b) : LI σ N (fu (fu f a (min (f a) (f b))) b (min (f a) (f b))) := by
  have wa := h.w (by omega) ha0
  have wb := h.w hb hb0
  have he : ed σ N a b := ⟨by omega, hb, wa, wb, Or.inl ⟨hab, ht⟩⟩
  obtain ⟨qa, a1, a2, a3, a4⟩ := (h a (by omega)).2 wa
  obtain ⟨qb, b1, b2, b3, b4⟩ := (h b hb).2 wb
  have key : ∃ q : Nat, min (f a) (f b) = (q : Int) ∧ q ≤ a ∧ wtg σ q ∧ Conn σ N a q ∧ Conn σ N b q := by
    rcases Int.le_total (f a) (f b) with hle | hle
    · exact ⟨qa, by omega, a2, a3, a4, (Conn.of he.symm).tr a4⟩
    · exact ⟨qb, by omega, by omega, b3, (Conn.of he).tr b4, b4⟩
  obtain ⟨q, k1, k2, k3, k4, k5⟩ := key
  intro i hi
  refine ⟨fun hw => ?_, fun hw => ?_⟩
  · have n1 : i ≠ b := fun e => hw (e ▸ wb)
    have n2 : i ≠ a := fun e => hw (e ▸ wa)
    rw [fu_n n1, fu_n n2]
    exact (h i hi).1 hw
  · by_cases e1 : i = b
    · subst e1
      exact ⟨q, by rw [fu_s]; exact k1, by omega, k3, k5⟩
    · by_cases e2 : i = a
      · subst e2
        exact ⟨q, by rw [fu_n e1, fu_s]; exact k1, k2, k3, k4⟩
      · rw [fu_n e1, fu_n e2]
        exact (h i hi).2 hw
/-- what falls with each joining -/
def wt (f : Nat → Int) : Nat → Nat
  | 0 => 0
  | k + 1 => wt f k + (f k + 1).toNat
theorem wt_c {f f' : Nat → Int} (k : Nat) (h : ∀ i, i < k → f i = f' i) : wt f k = wt f' k := by
  induction k with
  | zero => rfl
  | succ k ih => simp only [wt]; rw [ih (fun i hi => h i (by omega)), h k (by omega)]
theorem wt_fu {f : Nat → Int} {j k : Nat} {v : Int} (hj : j < k) : wt (fu f j v) k + (f j + 1).toNat = wt f k + (v + 1).toNat := by
  induction k with
  | zero => omega
  | succ k ih =>
    simp only [wt]
    by_cases e : j = k
    · subst e
      rw [fu_s, wt_c (f := fu f j v) (f' := f) j (fun i hi => fu_n (by omega))]
      omega
    · have := ih (by omega)
      rw [fu_n (show k ≠ j by omega)]
      omega
theorem wt_join {N a b : Nat} {f : Nat → Int} (hab : a < b) (hb : b < N) (ha0 : 0 ≤ f a) (hb0 : 0 ≤ f b) (hne : f a ≠ f b) : wt (fu (fu f a (min (f a) (f b))) b (min (f a) (f b))) N < wt f N := by
  have h1 := wt_fu (f := fu f a (min (f a) (f b))) (j := b) (k := N) (v := min (f a) (f b)) hb
  have h2 := wt_fu (f := f) (j := a) (k := N) (v := min (f a) (f b)) (by omega)
  rw [fu_n (show b ≠ a by omega)] at h1
  omega
/-- a pair needs no joining -/
def okp (σ : sT) (f : Nat → Int) (a b : Nat) : Prop := f a < 0 ∨ f b < 0 ∨ f a = f b ∨ ¬ tied σ a b
theorem IsL.of {σ : sT} {N : Nat} {f : Nat → Int} (h : LI σ N f) (hp : ∀ a b, a < b → b < N → okp σ f a b) : IsL σ N f := by
  refine ⟨h, fun i j he => ?_⟩
  obtain ⟨hi, hj, wi, wj, ht⟩ := he
  obtain ⟨qi, i1, -⟩ := (h i hi).2 wi
  obtain ⟨qj, j1, -⟩ := (h j hj).2 wj
  rcases ht with ⟨hlt, ht⟩ | ⟨hlt, ht⟩
  · rcases hp i j hlt hj with h | h | h | h
    · omega
    · omega
    · exact h
    · exact absurd ht h
  · rcases hp j i hlt hi with h | h | h | h
    · omega
    · omega
    · exact h.symm
    · exact absurd ht h
/-! maxima; the members of a case -/
noncomputable def mx (f : Nat → Int) (P : Nat → Prop) : Nat → Int
  | 0 => 0
  | k + 1 => @ite Int (P k) (Classical.propDecidable _) (max (mx f P k) (f k)) (mx f P k)
theorem mx_y {f : Nat → Int} {P : Nat → Prop} {k : Nat} (h : P k) : max (mx f P k) (f k) = mx f P (k + 1) := by simp only [mx]; rw [if_pos h]
theorem mx_n {f : Nat → Int} {P : Nat → Prop} {k : Nat} (h : ¬ P k) : mx f P k = mx f P (k + 1) := by simp only [mx]; rw [if_neg h]
theorem mx_rg {f : Nat → Int} {P : Nat → Prop} (C : Int) (k : Nat) (h : ∀ i, i < k → f i ≤ C) (hC : 0 ≤ C) : 0 ≤ mx f P k ∧ mx f P k ≤ C := by
  induction k with
  | zero => exact ⟨Int.le_refl _, hC⟩
  | succ k ih =>
    have h1 := ih (fun i hi => h i (by omega))
    have h2 := h k (by omega)
    simp only [mx]
    split <;> omega
theorem mx_c {f f' : Nat → Int} {P P' : Nat → Prop} (k : Nat) (h : ∀ i, i < k → f i = f' i ∧ (P i ↔ P' i)) : mx f P k = mx f' P' k := by
  induction k with
  | zero => rfl
  | succ k ih =>
    have h1 := h k (by omega)
    by_cases p : P k
    · rw [← mx_y p, ← mx_y (h1.2.mp p), ih (fun i hi => h i (by omega)), h1.1]
    · rw [← mx_n p, ← mx_n (fun z => p (h1.2.mpr z)), ih (fun i hi => h i (by omega))]
theorem cn_mono {P : Nat → Prop} {i j : Nat} (h : i ≤ j) : cn P i ≤ cn P j := by
  induction j with
  | zero => rw [show i = 0 by omega]; exact Int.le_refl _
  | succ j ih =>
    have := bz_rg (P j)
    by_cases e : i = j + 1
    · rw [e]; exact Int.le_refl _
    · have := ih (by omega)
      simp only [cn]
      omega
theorem cn_lt {P : Nat → Prop} {i j : Nat} (h : i < j) (hp : P i) : cn P i < cn P j := by
  have h1 : cn P (i + 1) ≤ cn P j := cn_mono h
  have h2 := cn_y hp
  omega
theorem cn_inj {P : Nat → Prop} {i j : Nat} (hi : P i) (hj : P j) (h : cn P i = cn P j) : i = j := by
  rcases Nat.lt_trichotomy i j with e | e | e
  · have := cn_lt e hi; omega
  · exact e
  · have := cn_lt e hj; omega
/-- me lists, in order, the places with P below k -/
def lists (P : Nat → Prop) (k : Nat) (me : Nat → Nat) : Prop := ∀ j : Nat, (j : Int) < cn P k → me j < k ∧ P (me j) ∧ cn P (me j) = (j : Int)
theorem lists_0 {P : Nat → Prop} {me : Nat → Nat} : lists P 0 me := fun j hj => by simp only [cn] at hj; omega
theorem lists_y {P : Nat → Prop} {k m : Nat} {me : Nat → Nat} (h : lists P k me) (hp : P k) (hm : cn P k = (m : Int)) : lists P (k + 1) (fun j => if j = m then k else me j) := by
  intro j hj
  rw [← cn_y hp] at hj
  by_cases e : j = m
  · simp only [if_pos e]
    exact ⟨by omega, hp, by omega⟩
  · simp only [if_neg e]
    obtain ⟨h1, h2, h3⟩ := h j (by omega)
    exact ⟨by omega, h2, h3⟩
theorem lists_n {P : Nat → Prop} {k : Nat} {me : Nat → Nat} (h : lists P k me) (hp : ¬ P k) : lists P (k + 1) me := by
  intro j hj
  rw [← cn_n' hp] at hj
  obtain ⟨h1, h2, h3⟩ := h j hj
  exact ⟨by omega, h2, h3⟩
theorem lists_of {P : Nat → Prop} {k i : Nat} {me : Nat → Nat} (h : lists P k me) (hi : i < k) (hp : P i) : ∃ j : Nat, (j : Int) = cn P i ∧ (j : Int) < cn P k ∧ me j = i := by
  have h0 := cn_rg P i
  obtain ⟨j, hj⟩ : ∃ j : Nat, (j : Int) = cn P i := ⟨(cn P i).toNat, by omega⟩
  have h1 := cn_lt hi hp
  obtain ⟨g1, g2, g3⟩ := h j (by omega)
  exact ⟨j, hj, by omega, cn_inj g2 hp (by omega)⟩
theorem lists_u {P : Nat → Prop} {k : Nat} {me me' : Nat → Nat} (h : lists P k me) (h' : lists P k me') {j : Nat} (hj : (j : Int) < cn P k) : me j = me' j := by
  obtain ⟨-, g2, g3⟩ := h j hj
  obtain ⟨-, g2', g3'⟩ := h' j hj
  exact cn_inj g2 g2' (by omega)
theorem lists_ex (P : Nat → Prop) (k : Nat) : ∃ me, lists P k me := by
  induction k with
  | zero => exact ⟨fun _ => 0, lists_0⟩
  | succ k ih =>
    obtain ⟨me, h⟩ := ih
    have h0 := cn_rg P k
    by_cases p : P k
    · exact ⟨_, lists_y (m := (cn P k).toNat) h p (by omega)⟩
    · exact ⟨me, lists_n h p⟩
/-- the j-th place with P -/
noncomputable def nth (P : Nat → Prop) (k : Nat) : Nat → Nat := Classical.choose (lists_ex P k)
theorem nth_l (P : Nat → Prop) (k : Nat) : lists P k (nth P k) := Classical.choose_spec (lists_ex P k)
/-! insertion by falling score -/
/-- where c goes among the first i of o -/
def insp (s : Nat → Int) (o : Nat → Nat) (c : Nat) : Nat → Nat
  | 0 => 0
  | p + 1 => if s (o p) < s c then insp s o c p else p + 1
def insO (s : Nat → Int) (o : Nat → Nat) (i c : Nat) : Nat → Nat := fun j => if j < insp s o c i then o j else if j = insp s o c i then c else if j ≤ i then o (j - 1) else o j
theorem insp_le (s : Nat → Int) (o : Nat → Nat) (c i : Nat) : insp s o c i ≤ i := by
  induction i with
  | zero => exact Nat.le_refl _
  | succ i ih => simp only [insp]; split <;> omega
/-- the elements from p on are moved one up -/
def shf (o : Nat → Nat) (p i : Nat) : Nat → Nat := fun j => if p < j ∧ j ≤ i then o (j - 1) else o j
theorem shf_i (o : Nat → Nat) (i : Nat) : shf o i i = o := by funext j; unfold shf; rw [if_neg (by omega)]
theorem shf_s (o : Nat → Nat) (p i : Nat) (h : p < i) : (fun j => if j = p + 1 then o p else shf o (p + 1) i j) = shf o p i := by
  funext j
  unfold shf
  by_cases e : j = p + 1
  · rw [if_pos e, if_pos (by omega), e]; rfl
  · rw [if_neg e]
    by_cases e2 : p + 1 < j ∧ j ≤ i
    · rw [if_pos e2, if_pos (by omega)]
    · rw [if_neg e2, if_neg (by omega)]
theorem shf_e {s : Nat → Int} {o : Nat → Nat} {i c p : Nat} (hp : p = insp s o c i) (hi : p ≤ i) : (fun j => if j = p then c else shf o p i j) = insO s o i c := by
  funext j
  unfold shf insO
  rw [← hp]
  by_cases e : j = p
  · rw [if_pos e, if_neg (by omega), if_pos e]
  · rw [if_neg e]
    by_cases e2 : j < p
    · rw [if_neg (by omega), if_pos e2]
    · rw [if_neg e2, if_neg e]
      by_cases e3 : j ≤ i
      · rw [if_pos (by omega), if_pos e3]
      · rw [if_neg (by omega), if_neg e3]
theorem insp_down {s : Nat → Int} {o : Nat → Nat} {c p i : Nat} (h : p ≤ i) (hs : ∀ q, p ≤ q → q < i → s (o q) < s c) : insp s o c i = insp s o c p := by
  induction i with
  | zero => rw [show p = 0 by omega]
  | succ i ih =>
    by_cases e : p = i + 1
    · rw [e]
    · simp only [insp]
      rw [if_pos (hs i (by omega) (by omega))]
      exact ih (by omega) (fun q h1 h2 => hs q h1 (by omega))
theorem insp_stop {s : Nat → Int} {o : Nat → Nat} {c p : Nat} (h : p = 0 ∨ ¬ s (o (p - 1)) < s c) : insp s o c p = p := by
  cases p with
  | zero => rfl
  | succ p =>
    simp only [insp]
    rw [if_neg]
    rcases h with h | h
    · omega
    · exact h
/-- the first n of o, sorted -/
def srt (s : Nat → Int) (o : Nat → Nat) : Nat → Nat → Nat
  | 0 => o
  | i + 1 => insO s (srt s o i) i (srt s o i i)
theorem srt_hi (s : Nat → Int) (o : Nat → Nat) (i j : Nat) (h : i ≤ j) : srt s o i j = o j := by
  induction i with
  | zero => rfl
  | succ i ih =>
    have h1 := insp_le s (srt s o i) (srt s o i i) i
    simp only [srt, insO]
    rw [if_neg (by omega), if_neg (by omega), if_neg (by omega)]
    exact ih (by omega)
theorem srt_1 (s : Nat → Int) (o : Nat → Nat) : srt s o 1 = o := by
  funext j
  show insO s o 0 (o 0) j = o j
  unfold insO
  rw [show insp s o (o 0) 0 = 0 from rfl]
  by_cases e : j = 0
  · rw [if_neg (by omega), if_pos e, e]
  · rw [if_neg (by omega), if_neg e, if_neg (by omega)]
/-- whatever holds of the first n of o holds of them sorted, and they stay apart -/
theorem insO_lt {s : Nat → Int} {o : Nat → Nat} {i c n : Nat} {P : Nat → Prop} (hi : i < n) (h : ∀ j, j < n → P (o j)) (hc : P c) : ∀ j, j < n → P (insO s o i c j) := by
  intro j hj
  unfold insO
  split
  · exact h j hj
  · split
    · exact hc
    · split
      · exact h _ (by omega)
      · exact h j hj
theorem srt_all {s : Nat → Int} {o : Nat → Nat} {n : Nat} {P : Nat → Prop} (h : ∀ j, j < n → P (o j)) (i : Nat) (hi : i ≤ n) : ∀ j, j < n → P (srt s o i j) := by
  induction i with
  | zero => exact h
  | succ i ih =>
    have ih := ih (by omega)
    exact insO_lt (by omega) ih (ih i (by omega))
theorem insO_inj {s : Nat → Int} {o : Nat → Nat} {i n : Nat} (hi : i < n) (h : ∀ j j', j < n → j' < n → o j = o j' → j = j') : ∀ j j', j < n → j' < n → insO s o i (o i) j = insO s o i (o i) j' → j = j' := by
  have hp := insp_le s o (o i) i
  have key : ∀ j, j < n → ∃ q, q < n ∧ insO s o i (o i) j = o q ∧ ((j < insp s o (o i) i ∧ q = j) ∨ (j = insp s o (o i) i ∧ q = i) ∨ (insp s o (o i) i < j ∧ j ≤ i ∧ q + 1 = j) ∨ (i < j ∧ q = j)) := by
    intro j hj
    unfold insO
    split
    · exact ⟨j, hj, rfl, by omega⟩
    · split
      · exact ⟨i, hi, rfl, by omega⟩
      · split
        · exact ⟨j - 1, by omega, rfl, by omega⟩
        · exact ⟨j, hj, rfl, by omega⟩
  intro j j' hj hj' e
  obtain ⟨q, q1, q2, q3⟩ := key j hj
  obtain ⟨q', r1, r2, r3⟩ := key j' hj'
  have := h q q' q1 r1 (by rw [← q2, ← r2]; exact e)
  omega
theorem srt_inj {s : Nat → Int} {o : Nat → Nat} {n : Nat} (h : ∀ j j', j < n → j' < n → o j = o j' → j = j') (i : Nat) (hi : i ≤ n) : ∀ j j', j < n → j' < n → srt s o i j = srt s o i j' → j = j' := by
  induction i with
  | zero => exact h
  | succ i ih => exact insO_inj (by omega) (ih (by omega))
/-- the cases: how many, their numbers in order, scores, sizes -/
def isC (σ : sT) (N k : Nat) : Prop := lab σ N k = (k : Int)
def inC (σ : sT) (N k : Nat) : Nat → Prop := fun i => lab σ N i = (k : Int)
noncomputable def csc (σ : sT) (N k : Nat) : Int := mx (sco σ N) (inC σ N k) N
noncomputable def csz (σ : sT) (N k : Nat) : Nat := (cn (inC σ N k) N).toNat
def clk (σ : sT) (N k : Nat) : Prop := ∃ i, i < N ∧ inC σ N k i ∧ dep σ N i = 0
noncomputable def ncs (σ : sT) (N : Nat) : Nat := (cn (isC σ N) N).toNat
noncomputable def ordr (σ : sT) (N : Nat) : Nat → Nat := srt (csc σ N) (nth (isC σ N) N) (ncs σ N)
theorem csz_c (σ : sT) (N k : Nat) : (csz σ N k : Int) = cn (inC σ N k) N ∧ csz σ N k ≤ N := by
  have := cn_rg (inC σ N k) N
  unfold csz
  omega
theorem ncs_c (σ : sT) (N : Nat) : (ncs σ N : Int) = cn (isC σ N) N ∧ ncs σ N ≤ N := by
  have := cn_rg (isC σ N) N
  unfold ncs
  omega
theorem ordr_ok (σ : sT) (N : Nat) : ∀ j, j < ncs σ N → ordr σ N j < N ∧ isC σ N (ordr σ N j) := by
  refine srt_all (P := fun z => z < N ∧ isC σ N z) (fun j hj => ?_) _ (Nat.le_refl _)
  have h := nth_l (isC σ N) N j (by have := (ncs_c σ N).1; omega)
  exact ⟨h.1, h.2.1⟩
theorem ordr_inj (σ : sT) (N : Nat) : ∀ j j', j < ncs σ N → j' < ncs σ N → ordr σ N j = ordr σ N j' → j = j' := by
  refine srt_inj (fun j j' hj hj' e => ?_) _ (Nat.le_refl _)
  have h0 := (ncs_c σ N).1
  have h1 := nth_l (isC σ N) N j (by omega)
  have h2 := nth_l (isC σ N) N j' (by omega)
  rw [e] at h1
  omega
theorem csc_rg {σ : sT} {N k : Nat} (h : ∀ i, i < N → 1 ≤ σ 5 i ∧ σ 5 i ≤ 100) : 0 ≤ csc σ N k ∧ csc σ N k ≤ 100000 := mx_rg 100000 N (fun i hi => (sco_rg (h i hi)).2) (by decide)
