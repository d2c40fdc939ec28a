/-! INTS BY THEIR INTEGER -/
def iI (z : Int) : Int32 := Int32.ofInt z
theorem iI_t {z : Int} (h : -2147483648 ≤ z ∧ z ≤ 2147483647) : (iI z).toInt = z := Int32.toInt_ofInt_of_le (by have := h.1; omega) (by have := h.2; omega)
theorem iI_add (a b : Int) : iI a + iI b = iI (a + b) := (Int32.ofInt_add a b).symm
theorem iI_sub (a b : Int) : iI a - iI b = iI (a - b) := (Int32.ofInt_sub a b).symm
theorem iI_mul (a b : Int) : iI a * iI b = iI (a * b) := (Int32.ofInt_mul a b).symm
theorem iI_neg (a : Int) : - iI a = iI (-a) := (Int32.ofInt_neg a).symm
theorem iI_lt {a b : Int} (ha : -2147483648 ≤ a ∧ a ≤ 2147483647) (hb : -2147483648 ≤ b ∧ b ≤ 2147483647) : iI a < iI b ↔ a < b := by rw [Int32.lt_iff_toInt_lt, iI_t ha, iI_t hb]
theorem iI_le {a b : Int} (ha : -2147483648 ≤ a ∧ a ≤ 2147483647) (hb : -2147483648 ≤ b ∧ b ≤ 2147483647) : iI a ≤ iI b ↔ a ≤ b := by rw [Int32.le_iff_toInt_le, iI_t ha, iI_t hb]
theorem iI_eq {a b : Int} (ha : -2147483648 ≤ a ∧ a ≤ 2147483647) (hb : -2147483648 ≤ b ∧ b ≤ 2147483647) : iI a = iI b ↔ a = b := by rw [← Int32.toInt_inj, iI_t ha, iI_t hb]
theorem iI_of (x : Int32) : x = iI x.toInt := (Int32.ofInt_toInt x).symm
theorem iI_rg (x : Int32) : -2147483648 ≤ x.toInt ∧ x.toInt ≤ 2147483647 := by
  have h1 := Int32.le_toInt x
  have h2 := Int32.toInt_lt x
  omega
theorem iI_nat (n : Nat) : Int32.ofNat n = iI (n : Int) := Int32.ofInt_eq_ofNat.symm
theorem nI_i (n : Nat) : nI n = iI (n : Int) := iI_nat n
theorem iI_clamp {k : Nat} (h : k < 2147483648) : (iI (k : Int)).toNatClampNeg = k := by rw [← nI_i]; exact nI_clamp (by omega)
theorem iI_in {k n : Nat} (h : k < n) (hn : n ≤ 2147483647) : vp_in (iI (k : Int)) n := by rw [← nI_i]; exact vp_in_nI h (by omega)
theorem iI_0 : iI 0 = 0 := rfl
theorem iI_div {a b : Int} (ha : 0 ≤ a ∧ a ≤ 2147483647) (hb : 0 < b ∧ b ≤ 2147483647) : iI a / iI b = iI (a / b) := by
  obtain ⟨ha, ha2⟩ := ha
  obtain ⟨hb, hb2⟩ := hb
  obtain ⟨m, rfl⟩ := Int.eq_ofNat_of_zero_le ha
  obtain ⟨d, rfl⟩ := Int.eq_ofNat_of_zero_le (Int.le_of_lt hb)
  rw [← nI_i, ← nI_i, pk_div (by omega) (by omega) (by omega), nI_i]
  rfl
theorem iI_rem {a b : Int} (ha : 0 ≤ a ∧ a ≤ 2147483647) (hb : 0 < b ∧ b ≤ 2147483647) : iI a - iI a / iI b * iI b = iI (a % b) := by
  rw [iI_div ha hb, iI_mul, iI_sub, Int.emod_def, Int.mul_comm b]
theorem sl32 : ∀ n : Nat, n < 32 → ((nI n &&& 31).toBitVec.smod 32).toNat = n := by decide +kernel
theorem iI_shr {a : Int} {s : Nat} (ha : 0 ≤ a ∧ a ≤ 2147483647) (hs : s < 32) : iI a >>> (iI (s : Int) &&& 31) = iI (a / (2 ^ s : Nat)) := by
  obtain ⟨ha, ha2⟩ := ha
  obtain ⟨m, rfl⟩ := Int.eq_ofNat_of_zero_le ha
  rw [← nI_i, ← nI_i, pk_shrN (by omega) _ s (sl32 s hs), nI_i]
  rfl
theorem iI_shl {a : Int} {s : Nat} (ha : 0 ≤ a) (hs : s < 32) (h : a * (2 ^ s : Nat) ≤ 2147483647) : iI a <<< (iI (s : Int) &&& 31) = iI (a * (2 ^ s : Nat)) := by
  obtain ⟨m, rfl⟩ := Int.eq_ofNat_of_zero_le ha
  have h' : m * 2 ^ s < 2 ^ 32 := by
    have : ((m * 2 ^ s : Nat) : Int) ≤ 2147483647 := by rw [Int.natCast_mul]; exact h
    omega
  rw [← nI_i, ← nI_i, pk_shlN _ s (sl32 s hs) h', nI_i, Int.natCast_mul]
theorem iI_and1 {a : Int} (ha : 0 ≤ a ∧ a ≤ 2147483647) : iI a &&& iI 1 = iI (a % 2) := by
  obtain ⟨ha, ha2⟩ := ha
  obtain ⟨m, rfl⟩ := Int.eq_ofNat_of_zero_le ha
  rw [← nI_i, pk_andN (by omega) 1 (by decide), nI_i]
  rfl
theorem iI_or (a b : Nat) : iI (a : Int) ||| iI (b : Int) = iI ((a ||| b : Nat) : Int) := by
  rw [← nI_i, ← nI_i, ← nI_i]
  refine Int32.toBitVec_inj.1 ?_
  show BitVec.ofNat 32 a ||| BitVec.ofNat 32 b = BitVec.ofNat 32 (a ||| b)
  exact (BitVec.ofNat_or).symm
/-- one or nought -/
noncomputable def bz (P : Prop) : Int := @ite Int P (Classical.propDecidable P) 1 0
theorem bz_t {P : Prop} (h : P) : bz P = 1 := by unfold bz; rw [if_pos h]
theorem bz_f {P : Prop} (h : ¬ P) : bz P = 0 := by unfold bz; rw [if_neg h]
theorem bz_or (P : Prop) : bz P = 0 ∨ bz P = 1 := by
  by_cases h : P
  · exact Or.inr (bz_t h)
  · exact Or.inl (bz_f h)
theorem bz_rg (P : Prop) : 0 ≤ bz P ∧ bz P ≤ 1 := by rcases bz_or P with h | h <;> omega
theorem bz_c {P P' : Prop} (h : P ↔ P') : bz P = bz P' := by rw [propext h]
theorem bz_1 {P : Prop} : bz P = 1 ↔ P := by
  by_cases h : P
  · rw [bz_t h]; exact ⟨fun _ => h, fun _ => rfl⟩
  · rw [bz_f h]; exact ⟨fun q => by omega, fun q => absurd q h⟩
theorem bz_0 {P : Prop} : bz P = 0 ↔ ¬ P := by
  by_cases h : P
  · rw [bz_t h]; exact ⟨fun q => by omega, fun q => absurd h q⟩
  · rw [bz_f h]; exact ⟨fun _ => h, fun _ => rfl⟩
theorem nar_z {b : Int} (h : b = 0 ∨ b = 1) : narrow .boolean (.int (iI b)) = .int (iI b) ∧ fits .boolean (.int (iI b)) = true := by
  rcases h with rfl | rfl <;> exact ⟨by decide, by decide⟩
theorem vnar_z {b : Int} (h : b = 0 ∨ b = 1) : vp_nar .boolean (iI b) = iI b := by
  rcases h with rfl | rfl <;> decide
/-- a place of a map of ints -/
def fu (f : Nat → Int) (j : Nat) (v : Int) : Nat → Int := fun q => if q = j then v else f q
theorem fu_s {f : Nat → Int} {j : Nat} {v : Int} : fu f j v j = v := by simp [fu]
theorem fu_n {f : Nat → Int} {j q : Nat} {v : Int} (h : q ≠ j) : fu f j v q = f q := by simp [fu, h]
theorem fu_iI (f : Nat → Int) (j : Nat) (v : Int) : upd (fun q => iI (f q)) j (iI v) = fun q => iI (fu f j v q) := by
  funext q
  by_cases h : q = j
  · subst h; simp [upd, fu]
  · simp [upd, fu, h]
