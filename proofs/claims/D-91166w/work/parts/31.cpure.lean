/-! THE CLASS: methods that change nothing -/
set_option maxRecDepth 100000
theorem cn_y {P : Nat → Prop} {k : Nat} (h : P k) : cn P k + 1 = cn P (k + 1) := by show _ = cn P k + bz (P k); rw [bz_t h]
theorem cn_n {P : Nat → Prop} {k : Nat} (h : ¬ P k) : cn P k + 0 = cn P (k + 1) := by show _ = cn P k + bz (P k); rw [bz_f h]
theorem cn_n' {P : Nat → Prop} {k : Nat} (h : ¬ P k) : cn P k = cn P (k + 1) := by show _ = cn P k + bz (P k); rw [bz_f h]; omega
theorem al_cell {G : gG} {M : gH} {L : Nat} {lab labE : gL} {n : Nat} {f : Nat → Nat} (h : AL G M L lab labE n f) : ∃ (mod : Int) (E : Nat), M L = some (lab, alc mod E n) := by
  obtain ⟨mod, E, h, -⟩ := h
  exact ⟨mod, E, h⟩
theorem k_isIn (l : Launch) (G : gG) (M : gH) (a b c : Int) (ha : -2147483648 ≤ a ∧ a ≤ 2147483647) (hb : -2147483648 ≤ b ∧ b ≤ 2147483647) (hc : -2147483648 ≤ c ∧ c ≤ 2147483647) : GMet l yX0_isIn (ws_ yX0_isIn cX0_isIn 3 (some .boolean)) ({ frames := 0, cells := 0, slots := 0, locals := 0 } : Room) G [.int (iI a), .int (iI b), .int (iI c)] M (pI M (bz (b ≤ a ∧ a ≤ c))) 0 0 := by
  refine g_start (by decide) (Nat.le_of_ble_eq_true rfl) (fun x hx => ?_)
  refine g_iload_n hx 0 dX0_isIn_0 rfl rfl ?_
  refine g_iload_n hx 1 dX0_isIn_1 rfl rfl ?_
  refine g_icmp_lt hx 14 (by omega) (by omega) dX0_isIn_2 (by decide) (fun c_2 => ?_) (fun c_2 => ?_)
  ·
    refine g_iconst hx dX0_isIn_14 ?_
    exact g_zret hx (by omega) (Nat.zero_le _) (Nat.zero_le _) dX0_isIn_15 (pI_ok (bz_f (by omega)).symm)
  ·
    refine g_iload_n hx 0 dX0_isIn_5 rfl rfl ?_
    refine g_iload_n hx 2 dX0_isIn_6 rfl rfl ?_
    refine g_icmp_gt hx 14 (by omega) (by omega) dX0_isIn_7 (by decide) (fun c_7 => ?_) (fun c_7 => ?_)
    ·
      refine g_iconst hx dX0_isIn_14 ?_
      exact g_zret hx (by omega) (Nat.zero_le _) (Nat.zero_le _) dX0_isIn_15 (pI_ok (bz_f (by omega)).symm)
    ·
      refine g_iconst hx dX0_isIn_10 ?_
      refine g_goto hx 15 dX0_isIn_11 (by decide) ?_
      exact g_zret hx (by omega) (Nat.zero_le _) (Nat.zero_le _) dX0_isIn_15 (pI_ok (bz_t (by omega)).symm)
theorem k_isInM (l : Launch) (G : gG) (M : gH) (a b c : Int) (ha : -2147483648 ≤ a ∧ a ≤ 2147483647) (hb : -2147483648 ≤ b ∧ b ≤ 2147483647) (hc : -2147483648 ≤ c ∧ c ≤ 2147483647) : GMet l yX1_isIn (ws_ yX1_isIn cX1_isIn 3 (some .boolean)) ({ frames := 0, cells := 0, slots := 0, locals := 0 } : Room) G [.int (iI a), .int (iI b), .int (iI c)] M (pI M (bz (b ≤ a ∧ a ≤ c))) 0 0 := by
  refine g_start (by decide) (Nat.le_of_ble_eq_true rfl) (fun x hx => ?_)
  refine g_iload_n hx 0 dX1_isIn_0 rfl rfl ?_
  refine g_iload_n hx 1 dX1_isIn_1 rfl rfl ?_
  refine g_icmp_lt hx 14 (by omega) (by omega) dX1_isIn_2 (by decide) (fun c_2 => ?_) (fun c_2 => ?_)
  ·
    refine g_iconst hx dX1_isIn_14 ?_
    exact g_zret hx (by omega) (Nat.zero_le _) (Nat.zero_le _) dX1_isIn_15 (pI_ok (bz_f (by omega)).symm)
  ·
    refine g_iload_n hx 0 dX1_isIn_5 rfl rfl ?_
    refine g_iload_n hx 2 dX1_isIn_6 rfl rfl ?_
    refine g_icmp_gt hx 14 (by omega) (by omega) dX1_isIn_7 (by decide) (fun c_7 => ?_) (fun c_7 => ?_)
    ·
      refine g_iconst hx dX1_isIn_14 ?_
      exact g_zret hx (by omega) (Nat.zero_le _) (Nat.zero_le _) dX1_isIn_15 (pI_ok (bz_f (by omega)).symm)
    ·
      refine g_iconst hx dX1_isIn_10 ?_
      refine g_goto hx 15 dX1_isIn_11 (by decide) ?_
      exact g_zret hx (by omega) (Nat.zero_le _) (Nat.zero_le _) dX1_isIn_15 (pI_ok (bz_t (by omega)).symm)
theorem k_isHeard (l : Launch) (G : gG) (g : gA2) (M : gH) (σ : sT) (N : Nat) (lf : Int) (B : Nat) (hI : Iv σ N B) (hR : RC G g M σ N lf) (i : Nat) (hi : i < N) : GMet l yX2_isHeard (ws_ yX2_isHeard cX2_isHeard 1 (some .boolean)) ({ frames := 0, cells := 0, slots := 0, locals := 0 } : Room) G [.ref (g 10 i)] M (pI M (bz (hrd σ i))) 0 0 := by
  refine g_start (by decide) (Nat.le_of_ble_eq_true rfl) (fun x hx => ?_)
  have hb := (hI.2.1 i hi).1
  unfold okA at hb
  refine g_aload_n hx 0 dX2_isHeard_0 rfl rfl ?_
  refine gq220 (v := .int (iI (σ 6 i))) hx rfl dX2_isHeard_1 (hR.al (i := i) (by omega)) rfl ?_
  refine g_if_ne hx 18 (by omega) dX2_isHeard_4 (by decide) (fun c_4 => ?_) (fun c_4 => ?_)
  ·
    refine g_iconst hx dX2_isHeard_18 ?_
    exact g_zret hx (by omega) (Nat.zero_le _) (Nat.zero_le _) dX2_isHeard_19 (pI_ok (bz_f (by unfold hrd; omega)).symm)
  ·
    refine g_aload_n hx 0 dX2_isHeard_7 rfl rfl ?_
    refine gq222 (v := .int (iI (σ 7 i))) hx rfl dX2_isHeard_8 (hR.al (i := i) (by omega)) rfl ?_
    refine g_if_ne hx 18 (by omega) dX2_isHeard_11 (by decide) (fun c_11 => ?_) (fun c_11 => ?_)
    ·
      refine g_iconst hx dX2_isHeard_18 ?_
      exact g_zret hx (by omega) (Nat.zero_le _) (Nat.zero_le _) dX2_isHeard_19 (pI_ok (bz_f (by unfold hrd; omega)).symm)
    ·
      refine g_iconst hx dX2_isHeard_14 ?_
      refine g_goto hx 19 dX2_isHeard_15 (by decide) ?_
      exact g_zret hx (by omega) (Nat.zero_le _) (Nat.zero_le _) dX2_isHeard_19 (pI_ok (bz_t (by unfold hrd; omega)).symm)
theorem k_isWaiting (l : Launch) (G : gG) (g : gA2) (M : gH) (σ : sT) (N : Nat) (lf : Int) (B : Nat) (hI : Iv σ N B) (hR : RC G g M σ N lf) (i : Nat) (hi : i < N) : GMet l yX2_isWaiting (ws_ yX2_isWaiting cX2_isWaiting 1 (some .boolean)) ({ frames := 1, cells := 0, slots := 0, locals := 20 } : Room) G [.ref (g 10 i)] M (pI M (bz (wtg σ i))) 0 0 := by
  refine g_start (by decide) (Nat.le_of_ble_eq_true rfl) (fun x hx => ?_)
  have hb := (hI.2.1 i hi).1
  unfold okA at hb
  refine g_aload_n hx 0 dX2_isWaiting_0 rfl rfl ?_
  refine g_pcallV (rest := []) (na := 0) hx (k_isHeard l G g M σ N lf B hI hR i (by omega)) (hR.al (i := i) (by omega)) rfl (lw_V q187 q188 q189 q38 q190) rfl rfl (by decide +kernel) rfl ⟨Nat.le_of_ble_eq_true rfl, Nat.le_of_ble_eq_true rfl⟩ rfl (Nat.le_of_ble_eq_true rfl) dX2_isWaiting_1 ⟨Nat.zero_le _, Nat.zero_le _⟩ ?_
  refine g_if_eqP hx 18 dX2_isWaiting_4 (by decide) (fun c_4 => ?_) (fun c_4 => ?_)
  ·
    refine g_iconst hx dX2_isWaiting_18 ?_
    exact g_zret hx (by omega) (Nat.zero_le _) (Nat.zero_le _) dX2_isWaiting_19 (pI_ok (bz_f (by intro h; have h1 := h.1; have h2 := h.2; first | (exact absurd h1 (by assumption)) | omega)).symm)
  ·
    refine g_aload_n hx 0 dX2_isWaiting_7 rfl rfl ?_
    refine gq229 (v := .int (iI (σ 10 i))) hx rfl dX2_isWaiting_8 (hR.al (i := i) (by omega)) rfl ?_
    refine g_if_ne hx 18 (by omega) dX2_isWaiting_11 (by decide) (fun c_11 => ?_) (fun c_11 => ?_)
    ·
      refine g_iconst hx dX2_isWaiting_18 ?_
      exact g_zret hx (by omega) (Nat.zero_le _) (Nat.zero_le _) dX2_isWaiting_19 (pI_ok (bz_f (by intro h; have h1 := h.1; have h2 := h.2; first | (exact absurd h1 (by assumption)) | omega)).symm)
    ·
      refine g_iconst hx dX2_isWaiting_14 ?_
      refine g_goto hx 19 dX2_isWaiting_15 (by decide) ?_
      exact g_zret hx (by omega) (Nat.zero_le _) (Nat.zero_le _) dX2_isWaiting_19 (pI_ok (bz_t (by exact ⟨c_4, by omega⟩)).symm)
theorem k_isLike (l : Launch) (G : gG) (g : gA2) (M : gH) (σ : sT) (N : Nat) (lf : Int) (B : Nat) (hI : Iv σ N B) (hR : RC G g M σ N lf) (i : Nat) (hi : i < N) (a b c : Int) (ha : -2147483648 ≤ a ∧ a ≤ 2147483647) (hb : -2147483648 ≤ b ∧ b ≤ 2147483647) (hc : -2147483648 ≤ c ∧ c ≤ 2147483647) : GMet l yX2_isLike (ws_ yX2_isLike cX2_isLike 4 (some .boolean)) ({ frames := 0, cells := 0, slots := 0, locals := 0 } : Room) G [.ref (g 10 i), .int (iI a), .int (iI b), .int (iI c)] M (pI M (bz (σ 2 i = a ∧ σ 3 i = b ∧ σ 4 i = c))) 0 0 := by
  refine g_start (by decide) (Nat.le_of_ble_eq_true rfl) (fun x hx => ?_)
  have hb2 := (hI.2.1 i hi).1
  unfold okA at hb2
  refine g_aload_n hx 0 dX2_isLike_0 rfl rfl ?_
  refine gq212 (v := .int (iI (σ 2 i))) hx rfl dX2_isLike_1 (hR.al (i := i) (by omega)) rfl ?_
  refine g_iload_n hx 1 dX2_isLike_4 rfl rfl ?_
  refine g_icmp_ne hx 28 (by omega) (by omega) dX2_isLike_5 (by decide) (fun c_5 => ?_) (fun c_5 => ?_)
  ·
    refine g_iconst hx dX2_isLike_28 ?_
    exact g_zret hx (by omega) (Nat.zero_le _) (Nat.zero_le _) dX2_isLike_29 (pI_ok (bz_f (by omega)).symm)
  ·
    refine g_aload_n hx 0 dX2_isLike_8 rfl rfl ?_
    refine gq214 (v := .int (iI (σ 3 i))) hx rfl dX2_isLike_9 (hR.al (i := i) (by omega)) rfl ?_
    refine g_iload_n hx 2 dX2_isLike_12 rfl rfl ?_
    refine g_icmp_ne hx 28 (by omega) (by omega) dX2_isLike_13 (by decide) (fun c_13 => ?_) (fun c_13 => ?_)
    ·
      refine g_iconst hx dX2_isLike_28 ?_
      exact g_zret hx (by omega) (Nat.zero_le _) (Nat.zero_le _) dX2_isLike_29 (pI_ok (bz_f (by omega)).symm)
    ·
      refine g_aload_n hx 0 dX2_isLike_16 rfl rfl ?_
      refine gq216 (v := .int (iI (σ 4 i))) hx rfl dX2_isLike_17 (hR.al (i := i) (by omega)) rfl ?_
      refine g_iload_n hx 3 dX2_isLike_20 rfl rfl ?_
      refine g_icmp_ne hx 28 (by omega) (by omega) dX2_isLike_21 (by decide) (fun c_21 => ?_) (fun c_21 => ?_)
      ·
        refine g_iconst hx dX2_isLike_28 ?_
        exact g_zret hx (by omega) (Nat.zero_le _) (Nat.zero_le _) dX2_isLike_29 (pI_ok (bz_f (by omega)).symm)
      ·
        refine g_iconst hx dX2_isLike_24 ?_
        refine g_goto hx 29 dX2_isLike_25 (by decide) ?_
        exact g_zret hx (by omega) (Nat.zero_le _) (Nat.zero_le _) dX2_isLike_29 (pI_ok (bz_t (by omega)).symm)
theorem rg_div {a : Int} {e : Nat} (h : 0 ≤ a ∧ a ≤ 2147483647) : -2147483648 ≤ a / (e : Int) ∧ a / (e : Int) ≤ 2147483647 := by
  have h1 : 0 ≤ a / (e : Int) := Int.ediv_nonneg h.1 (by omega)
  have h2 : a / (e : Int) ≤ a := Int.ediv_le_self _ h.1
  omega
theorem k_isAt (l : Launch) (G : gG) (g : gA2) (M : gH) (σ : sT) (N : Nat) (lf : Int) (B : Nat) (hI : Iv σ N B) (hR : RC G g M σ N lf) (i : Nat) (hi : i < N) (d : Nat) (hd : d ≤ 4) (m : Int) (hm : 0 ≤ m ∧ m ≤ 4095) : GMet l yX2_isAt (ws_ yX2_isAt cX2_isAt 3 (some .boolean)) ({ frames := 0, cells := 0, slots := 0, locals := 0 } : Room) G [.ref (g 10 i), .int (iI (d : Int)), .int (iI m)] M (pI M (bz (atD σ i d m))) 0 0 := by
  refine g_start (by decide) (Nat.le_of_ble_eq_true rfl) (fun x hx => ?_)
  have hb := (hI.2.1 i hi).1
  unfold okA at hb
  refine g_aload_n hx 0 dX2_isAt_0 rfl rfl ?_
  refine gq216 (v := .int (iI (σ 4 i))) hx rfl dX2_isAt_1 (hR.al (i := i) (by omega)) rfl ?_
  refine g_iconst hx dX2_isAt_4 ?_
  refine g_iconst hx dX2_isAt_5 ?_
  refine g_iload_n hx 1 dX2_isAt_6 rfl rfl ?_
  refine g_isub hx dX2_isAt_7 ?_
  refine g_imul hx dX2_isAt_8 ?_
  refine g_st (st' := .int (iI ((3 * (4 - d) : Nat) : Int)) :: [.int (iI (σ 4 i))]) (by rw [show ((3 * (4 - d) : Nat) : Int) = 3 * (4 - (d : Int)) by omega]) ?_
  refine g_ishr (s0 := (3 * (4 - d))) hx dX2_isAt_9 (by omega) (by omega) ?_
  refine g_iload_n hx 2 dX2_isAt_10 rfl rfl ?_
  refine g_iconst hx dX2_isAt_11 ?_
  refine g_iconst hx dX2_isAt_12 ?_
  refine g_iload_n hx 1 dX2_isAt_13 rfl rfl ?_
  refine g_isub hx dX2_isAt_14 ?_
  refine g_imul hx dX2_isAt_15 ?_
  refine g_st (st' := .int (iI ((3 * (4 - d) : Nat) : Int)) :: [.int (iI m), .int (iI ((σ 4 i) / ((2 ^ (3 * (4 - d)) : Nat) : Int)))]) (by rw [show ((3 * (4 - d) : Nat) : Int) = 3 * (4 - (d : Int)) by omega]) ?_
  refine g_ishr (s0 := (3 * (4 - d))) hx dX2_isAt_16 (by omega) (by omega) ?_
  refine g_icmp_ne hx 24 (rg_div (by omega)) (rg_div (by omega)) dX2_isAt_17 (by decide) (fun c_17 => ?_) (fun c_17 => ?_)
  ·
    refine g_iconst hx dX2_isAt_24 ?_
    exact g_zret hx (by omega) (Nat.zero_le _) (Nat.zero_le _) dX2_isAt_25 (pI_ok (bz_f (by unfold atD; omega)).symm)
  ·
    refine g_iconst hx dX2_isAt_20 ?_
    refine g_goto hx 25 dX2_isAt_21 (by decide) ?_
    exact g_zret hx (by omega) (Nat.zero_le _) (Nat.zero_le _) dX2_isAt_25 (pI_ok (bz_t (by unfold atD; omega)).symm)
theorem k_atY (l : Launch) (G : gG) (g : gA2) (M : gH) (σ : sT) (N : Nat) (lf : Int) (B : Nat) (hI : Iv σ N B) (hR : RC G g M σ N lf) (i : Nat) (hi : i < N) : GMet l yX0_at (ws_ yX0_at cX0_at 2 (some (.object "CryOrder$Alarm"))) ({ frames := 3, cells := 0, slots := 0, locals := 64 } : Room) G [.ref (g 0 0), .int (iI (i : Int))] M (pR M (g 10 i)) 0 0 := by
  refine g_start (by decide) (Nat.le_of_ble_eq_true rfl) (fun x hx => ?_)
  have hb0 := hI.1
  refine g_iload_n hx 1 dX0_at_0 rfl rfl ?_
  refine g_iconst hx dX0_at_1 ?_
  refine g_aload_n hx 0 dX0_at_2 rfl rfl ?_
  refine gq85 (v := .ref (g 1 0)) hx rfl dX0_at_3 hR.o rfl ?_
  refine g_pcallV (rest := [.int (iI 0), .int (iI (i : Int))]) (na := 0) hx (k_size l G M (g 1 0) (1, 0) (1, 1) N (g 10) hR.ls) ((al_cell hR.ls).choose_spec.choose_spec) rfl (lw_V q160 q161 q162 q34 q163) rfl rfl (by decide +kernel) rfl ⟨Nat.le_of_ble_eq_true rfl, Nat.le_of_ble_eq_true rfl⟩ rfl (Nat.le_of_ble_eq_true rfl) dX0_at_6 ⟨Nat.zero_le _, Nat.zero_le _⟩ ?_
  refine g_iconst hx dX0_at_9 ?_
  refine g_isub hx dX0_at_10 ?_
  refine g_pcallS (rest := []) (na := 3) hx (k_isIn l G M (i : Int) 0 ((N : Int) - 1) (by omega) (by omega) (by omega)) (lw_S q145 q146 q31 q147) rfl rfl (by decide +kernel) rfl ⟨Nat.le_of_ble_eq_true rfl, Nat.le_of_ble_eq_true rfl⟩ rfl (Nat.le_of_ble_eq_true rfl) dX0_at_11 ⟨Nat.zero_le _, Nat.zero_le _⟩ ?_
  refine g_if_eqP hx 31 dX0_at_14 (by decide) (fun c_14 => ?_) (fun c_14 => ?_)
  · exact absurd (by omega) c_14
  ·
    refine g_aload_n hx 0 dX0_at_17 rfl rfl ?_
    refine gq85 (v := .ref (g 1 0)) hx rfl dX0_at_18 hR.o rfl ?_
    refine g_iload_n hx 1 dX0_at_21 rfl rfl ?_
    refine g_pcallV (rest := []) (na := 1) hx (k_get l G M (g 1 0) (1, 0) (1, 1) N (g 10) hR.ls i (by omega)) ((al_cell hR.ls).choose_spec.choose_spec) rfl (lw_V q164 q165 q166 q34 q167) rfl rfl (by decide +kernel) rfl ⟨Nat.le_of_ble_eq_true rfl, Nat.le_of_ble_eq_true rfl⟩ rfl (Nat.le_of_ble_eq_true rfl) dX0_at_22 ⟨Nat.zero_le _, Nat.zero_le _⟩ ?_
    refine g_cast hx (hR.al (i := i) (by omega)) rfl q178 dX0_at_25 ?_
    refine g_goto hx 32 dX0_at_28 (by decide) ?_
    exact g_aret hx (Or.inl ⟨_, rfl⟩) (Or.inr ⟨_, rfl⟩) (Nat.zero_le _) (Nat.zero_le _) dX0_at_32 pR_ok
theorem k_atN (l : Launch) (G : gG) (g : gA2) (M : gH) (σ : sT) (N : Nat) (lf : Int) (B : Nat) (hI : Iv σ N B) (hR : RC G g M σ N lf) (a : Int) (ha : -2147483648 ≤ a ∧ a ≤ 2147483647) (hn : ¬ (0 ≤ a ∧ a < N)) : GMet l yX0_at (ws_ yX0_at cX0_at 2 (some (.object "CryOrder$Alarm"))) ({ frames := 3, cells := 0, slots := 0, locals := 64 } : Room) G [.ref (g 0 0), .int (iI a)] M (pV M .null) 0 0 := by
  refine g_start (by decide) (Nat.le_of_ble_eq_true rfl) (fun x hx => ?_)
  have hb0 := hI.1
  refine g_iload_n hx 1 dX0_at_0 rfl rfl ?_
  refine g_iconst hx dX0_at_1 ?_
  refine g_aload_n hx 0 dX0_at_2 rfl rfl ?_
  refine gq85 (v := .ref (g 1 0)) hx rfl dX0_at_3 hR.o rfl ?_
  refine g_pcallV (rest := [.int (iI 0), .int (iI a)]) (na := 0) hx (k_size l G M (g 1 0) (1, 0) (1, 1) N (g 10) hR.ls) ((al_cell hR.ls).choose_spec.choose_spec) rfl (lw_V q160 q161 q162 q34 q163) rfl rfl (by decide +kernel) rfl ⟨Nat.le_of_ble_eq_true rfl, Nat.le_of_ble_eq_true rfl⟩ rfl (Nat.le_of_ble_eq_true rfl) dX0_at_6 ⟨Nat.zero_le _, Nat.zero_le _⟩ ?_
  refine g_iconst hx dX0_at_9 ?_
  refine g_isub hx dX0_at_10 ?_
  refine g_pcallS (rest := []) (na := 3) hx (k_isIn l G M a 0 ((N : Int) - 1) (by omega) (by omega) (by omega)) (lw_S q145 q146 q31 q147) rfl rfl (by decide +kernel) rfl ⟨Nat.le_of_ble_eq_true rfl, Nat.le_of_ble_eq_true rfl⟩ rfl (Nat.le_of_ble_eq_true rfl) dX0_at_11 ⟨Nat.zero_le _, Nat.zero_le _⟩ ?_
  refine g_if_eqP hx 31 dX0_at_14 (by decide) (fun c_14 => ?_) (fun c_14 => ?_)
  ·
    refine g_null hx dX0_at_31 ?_
    exact g_aret hx (Or.inl ⟨_, rfl⟩) (Or.inl rfl) (Nat.zero_le _) (Nat.zero_le _) dX0_at_32 ⟨rfl, rfl⟩
  · exact absurd c_14 (by omega)
def slt (σ : sT) (a : Int) (k : Nat) : Prop := σ 13 k = a ∧ σ 14 k ≤ σ 0 0 ∧ σ 0 0 ≤ σ 15 k
/-- a source is silenced now -/
def sil (σ : sT) (a : Int) : Prop := ∃ k : Nat, (k : Int) < σ 0 4 ∧ slt σ a k
theorem k_isSilent (l : Launch) (G : gG) (g : gA2) (M : gH) (σ : sT) (N : Nat) (lf : Int) (B : Nat) (hI : Iv σ N B) (hR : RC G g M σ N lf) (a : Int) (ha : -2147483648 ≤ a ∧ a ≤ 2147483647) : GMet l yX0_isSilent (ws_ yX0_isSilent cX0_isSilent 3 (some .boolean)) ({ frames := 1, cells := 0, slots := 0, locals := 22 } : Room) G [.ref (g 0 0), .int (iI a)] M (pI M (bz (sil σ a))) 0 0 := by
  refine g_start (by decide) (Nat.le_of_ble_eq_true rfl) (fun x hx => ?_)
  have hb0 := hI.1
  obtain ⟨K, hK⟩ : ∃ K : Nat, σ 0 4 = (K : Int) := ⟨(σ 0 4).toNat, by omega⟩
  refine g_iconst hx dX0_isSilent_0 ?_
  refine g_istore_n (lv' := [(2, .int (iI 0)), (0, .ref (g 0 0)), (1, .int (iI a))]) hx dX0_isSilent_1 rfl (by decide) rfl ?_
  have lp_1 : ∀ k : Nat, k ≤ K → (∀ j : Nat, j < k → ¬ slt σ a j) → GW x (gQx x (pI M (bz (sil σ a))) 0 0) M 0 0 2 [(2, .int (iI (k : Int))), (0, .ref (g 0 0)), (1, .int (iI a))] [] := by
    refine down K (fun k hk_k ih_k hy_k => ?_)
    have hs : (k : Int) < σ 0 4 → okS σ k := fun h => hI.2.2.1 k h
    refine g_iload_n hx 0 dX0_isSilent_2 rfl rfl ?_
    refine g_aload_n hx 1 dX0_isSilent_3 rfl rfl ?_
    refine gq89 (v := .int (iI (σ 0 4))) hx rfl dX0_isSilent_4 hR.o rfl ?_
    refine g_icmp_ge hx 50 (by omega) (by omega) dX0_isSilent_7 (by decide) (fun c_7 => ?_) (fun c_7 => ?_)
    ·
      refine g_iconst hx dX0_isSilent_50 ?_
      exact g_zret hx (Or.inl rfl) (Nat.zero_le _) (Nat.zero_le _) dX0_isSilent_51 (pI_ok (bz_f (fun ⟨j, h1, h2⟩ => hy_k j (by omega) h2)).symm)
    ·
      have hs := hs (by omega); unfold okS at hs
      refine g_aload_n hx 1 dX0_isSilent_10 rfl rfl ?_
      refine gq86 (v := .ref (g 2 0)) hx rfl dX0_isSilent_11 hR.o rfl ?_
      refine g_iload_n hx 0 dX0_isSilent_14 rfl rfl ?_
      refine g_iald hx k (v := σ 13 k) hR.s2 rfl (by omega) (by decide) rfl dX0_isSilent_15 ?_
      refine g_iload_n hx 2 dX0_isSilent_16 rfl rfl ?_
      refine g_icmp_ne hx 44 (by omega) (by omega) dX0_isSilent_17 (by decide) (fun c_17 => ?_) (fun c_17 => ?_)
      ·
        refine g_iinc (lv' := [(2, .int (iI ((k + 1 : Nat) : Int))), (0, .ref (g 0 0)), (1, .int (iI a))]) (b := ((k + 1 : Nat) : Int)) hx 0 dX0_isSilent_44 rfl (by omega) (by decide) rfl ?_
        refine g_goto hx 2 dX0_isSilent_47 (by decide) ?_
        exact g_lv [0, 1, 2] rfl (ih_k (by omega) (fun j hj => by by_cases e : j = k; (· subst e; intro h; unfold slt at h; omega); (· exact hy_k j (by omega))))
      ·
        refine g_aload_n hx 1 dX0_isSilent_20 rfl rfl ?_
        refine gq81 (v := .int (iI (σ 0 0))) hx rfl dX0_isSilent_21 hR.o rfl ?_
        refine g_aload_n hx 1 dX0_isSilent_24 rfl rfl ?_
        refine gq87 (v := .ref (g 3 0)) hx rfl dX0_isSilent_25 hR.o rfl ?_
        refine g_iload_n hx 0 dX0_isSilent_28 rfl rfl ?_
        refine g_iald hx k (v := σ 14 k) hR.s3 rfl (by omega) (by decide) rfl dX0_isSilent_29 ?_
        refine g_aload_n hx 1 dX0_isSilent_30 rfl rfl ?_
        refine gq88 (v := .ref (g 4 0)) hx rfl dX0_isSilent_31 hR.o rfl ?_
        refine g_iload_n hx 0 dX0_isSilent_34 rfl rfl ?_
        refine g_iald hx k (v := σ 15 k) hR.s4 rfl (by omega) (by decide) rfl dX0_isSilent_35 ?_
        refine g_pcallS (rest := []) (na := 3) hx (k_isIn l G M (σ 0 0) (σ 14 k) (σ 15 k) (by omega) (by omega) (by omega)) (lw_S q145 q146 q31 q147) rfl rfl (by decide +kernel) rfl ⟨Nat.le_of_ble_eq_true rfl, Nat.le_of_ble_eq_true rfl⟩ rfl (Nat.le_of_ble_eq_true rfl) dX0_isSilent_36 ⟨Nat.zero_le _, Nat.zero_le _⟩ ?_
        refine g_if_eqP hx 44 dX0_isSilent_39 (by decide) (fun c_39 => ?_) (fun c_39 => ?_)
        ·
          refine g_iinc (lv' := [(2, .int (iI ((k + 1 : Nat) : Int))), (0, .ref (g 0 0)), (1, .int (iI a))]) (b := ((k + 1 : Nat) : Int)) hx 0 dX0_isSilent_44 rfl (by omega) (by decide) rfl ?_
          refine g_goto hx 2 dX0_isSilent_47 (by decide) ?_
          exact g_lv [0, 1, 2] rfl (ih_k (by omega) (fun j hj => by by_cases e : j = k; (· subst e; intro h; unfold slt at h; omega); (· exact hy_k j (by omega))))
        ·
          refine g_iconst hx dX0_isSilent_42 ?_
          exact g_zret hx (Or.inr rfl) (Nat.zero_le _) (Nat.zero_le _) dX0_isSilent_43 (pI_ok (bz_t ⟨k, by omega, by unfold slt; omega⟩).symm)
  exact g_lv [0, 1, 2] rfl (lp_1 0 (Nat.zero_le _) (fun j hj => by omega))
def rec (σ : sT) (a : Int) (k : Nat) : Prop := σ 2 k = a ∧ hrd σ k ∧ σ 0 0 - σ 1 k < 10
/-- a source has reached the cap -/
def ovr (σ : sT) (N : Nat) (a : Int) : Prop := σ 0 1 ≤ cn (rec σ a) N
theorem k_isOverCap (l : Launch) (G : gG) (g : gA2) (M : gH) (σ : sT) (N : Nat) (lf : Int) (B : Nat) (hI : Iv σ N B) (hR : RC G g M σ N lf) (a : Int) (ha : -2147483648 ≤ a ∧ a ≤ 2147483647) : GMet l yX0_isOverCap (ws_ yX0_isOverCap cX0_isOverCap 4 (some .boolean)) ({ frames := 3, cells := 0, slots := 0, locals := 64 } : Room) G [.ref (g 0 0), .int (iI a)] M (pI M (bz (ovr σ N a))) 0 0 := by
  refine g_start (by decide) (Nat.le_of_ble_eq_true rfl) (fun x hx => ?_)
  have hb0 := hI.1
  refine g_iconst hx dX0_isOverCap_0 ?_
  refine g_istore_n (lv' := [(2, .int (iI 0)), (0, .ref (g 0 0)), (1, .int (iI a))]) hx dX0_isOverCap_1 rfl (by decide) rfl ?_
  refine g_iconst hx dX0_isOverCap_2 ?_
  refine g_istore_n (lv' := [(3, .int (iI 0)), (2, .int (iI 0)), (0, .ref (g 0 0)), (1, .int (iI a))]) hx dX0_isOverCap_3 rfl (by decide) rfl ?_
  have lp_1 : ∀ k : Nat, k ≤ N → GW x (gQx x (pI M (bz (ovr σ N a))) 0 0) M 0 0 4 [(3, .int (iI (k : Int))), (2, .int (iI (cn (rec σ a) k))), (0, .ref (g 0 0)), (1, .int (iI a))] [] := by
    refine down N (fun k hk_k ih_k => ?_)
    have hcn := cn_rg (rec σ a) k
    refine g_iload_n hx 0 dX0_isOverCap_4 rfl rfl ?_
    refine g_aload_n hx 2 dX0_isOverCap_5 rfl rfl ?_
    refine gq85 (v := .ref (g 1 0)) hx rfl dX0_isOverCap_6 hR.o rfl ?_
    refine g_pcallV (rest := [.int (iI (k : Int))]) (na := 0) hx (k_size l G M (g 1 0) (1, 0) (1, 1) N (g 10) hR.ls) ((al_cell hR.ls).choose_spec.choose_spec) rfl (lw_V q160 q161 q162 q34 q163) rfl rfl (by decide +kernel) rfl ⟨Nat.le_of_ble_eq_true rfl, Nat.le_of_ble_eq_true rfl⟩ rfl (Nat.le_of_ble_eq_true rfl) dX0_isOverCap_9 ⟨Nat.zero_le _, Nat.zero_le _⟩ ?_
    refine g_icmp_ge hx 88 (by omega) (by omega) dX0_isOverCap_12 (by decide) (fun c_12 => ?_) (fun c_12 => ?_)
    ·
      refine g_iload_n hx 1 dX0_isOverCap_88 rfl rfl ?_
      refine g_aload_n hx 2 dX0_isOverCap_89 rfl rfl ?_
      refine gq82 (v := .int (iI (σ 0 1))) hx rfl dX0_isOverCap_90 hR.o rfl ?_
      refine g_icmp_lt hx 100 (by omega) (by omega) dX0_isOverCap_93 (by decide) (fun c_93 => ?_) (fun c_93 => ?_)
      ·
        refine g_iconst hx dX0_isOverCap_100 ?_
        exact g_zret hx (by omega) (Nat.zero_le _) (Nat.zero_le _) dX0_isOverCap_101 (pI_ok (bz_f (by unfold ovr; rw [show N = k by omega]; omega)).symm)
      ·
        refine g_iconst hx dX0_isOverCap_96 ?_
        refine g_goto hx 101 dX0_isOverCap_97 (by decide) ?_
        exact g_zret hx (by omega) (Nat.zero_le _) (Nat.zero_le _) dX0_isOverCap_101 (pI_ok (bz_t (by unfold ovr; rw [show N = k by omega]; omega)).symm)
    ·
      have hb := (hI.2.1 k (by omega)).1; unfold okA at hb; have hcn := cn_rg (rec σ a) k
      refine g_iload_n hx 1 dX0_isOverCap_15 rfl rfl ?_
      refine g_aload_n hx 2 dX0_isOverCap_16 rfl rfl ?_
      refine gq85 (v := .ref (g 1 0)) hx rfl dX0_isOverCap_17 hR.o rfl ?_
      refine g_iload_n hx 0 dX0_isOverCap_20 rfl rfl ?_
      refine g_pcallV (rest := [.int (iI (cn (rec σ a) k))]) (na := 1) hx (k_get l G M (g 1 0) (1, 0) (1, 1) N (g 10) hR.ls k (by omega)) ((al_cell hR.ls).choose_spec.choose_spec) rfl (lw_V q164 q165 q166 q34 q167) rfl rfl (by decide +kernel) rfl ⟨Nat.le_of_ble_eq_true rfl, Nat.le_of_ble_eq_true rfl⟩ rfl (Nat.le_of_ble_eq_true rfl) dX0_isOverCap_21 ⟨Nat.zero_le _, Nat.zero_le _⟩ ?_
      refine g_cast hx (hR.al (i := k) (by omega)) rfl q178 dX0_isOverCap_24 ?_
      refine gq213 (v := .int (iI (σ 2 k))) hx rfl dX0_isOverCap_27 (hR.al (i := k) (by omega)) rfl ?_
      refine g_iload_n hx 3 dX0_isOverCap_30 rfl rfl ?_
      refine g_icmp_ne hx 79 (by omega) (by omega) dX0_isOverCap_31 (by decide) (fun c_31 => ?_) (fun c_31 => ?_)
      ·
        refine g_iconst hx dX0_isOverCap_79 ?_
        refine g_iadd hx dX0_isOverCap_80 ?_
        refine g_top (b := cn (rec σ a) (k + 1)) (cn_n (fun h => by obtain ⟨h1, h2, h3⟩ := h; first | omega | (exact absurd h2 (by assumption)))) ?_
        refine g_istore_n (lv' := [(2, .int (iI (cn (rec σ a) (k + 1)))), (3, .int (iI (k : Int))), (0, .ref (g 0 0)), (1, .int (iI a))]) hx dX0_isOverCap_81 rfl (by decide) rfl ?_
        refine g_iinc (lv' := [(3, .int (iI ((k + 1 : Nat) : Int))), (2, .int (iI (cn (rec σ a) (k + 1)))), (0, .ref (g 0 0)), (1, .int (iI a))]) (b := ((k + 1 : Nat) : Int)) hx 1 dX0_isOverCap_82 rfl (by omega) (by decide) rfl ?_
        refine g_goto hx 4 dX0_isOverCap_85 (by decide) ?_
        exact g_lv [0, 1, 2, 3] rfl (ih_k (by omega))
      ·
        refine g_aload_n hx 2 dX0_isOverCap_34 rfl rfl ?_
        refine gq85 (v := .ref (g 1 0)) hx rfl dX0_isOverCap_35 hR.o rfl ?_
        refine g_iload_n hx 0 dX0_isOverCap_38 rfl rfl ?_
        refine g_pcallV (rest := [.int (iI (cn (rec σ a) k))]) (na := 1) hx (k_get l G M (g 1 0) (1, 0) (1, 1) N (g 10) hR.ls k (by omega)) ((al_cell hR.ls).choose_spec.choose_spec) rfl (lw_V q164 q165 q166 q34 q167) rfl rfl (by decide +kernel) rfl ⟨Nat.le_of_ble_eq_true rfl, Nat.le_of_ble_eq_true rfl⟩ rfl (Nat.le_of_ble_eq_true rfl) dX0_isOverCap_39 ⟨Nat.zero_le _, Nat.zero_le _⟩ ?_
        refine g_cast hx (hR.al (i := k) (by omega)) rfl q178 dX0_isOverCap_42 ?_
        refine g_pcallV (rest := [.int (iI (cn (rec σ a) k))]) (na := 0) hx (k_isHeard l G g M σ N lf B hI hR k (by omega)) (hR.al (i := k) (by omega)) rfl (lw_V q200 q188 q189 q38 q190) rfl rfl (by decide +kernel) rfl ⟨Nat.le_of_ble_eq_true rfl, Nat.le_of_ble_eq_true rfl⟩ rfl (Nat.le_of_ble_eq_true rfl) dX0_isOverCap_45 ⟨Nat.zero_le _, Nat.zero_le _⟩ ?_
        refine g_if_eqP hx 79 dX0_isOverCap_48 (by decide) (fun c_48 => ?_) (fun c_48 => ?_)
        ·
          refine g_iconst hx dX0_isOverCap_79 ?_
          refine g_iadd hx dX0_isOverCap_80 ?_
          refine g_top (b := cn (rec σ a) (k + 1)) (cn_n (fun h => by obtain ⟨h1, h2, h3⟩ := h; first | omega | (exact absurd h2 (by assumption)))) ?_
          refine g_istore_n (lv' := [(2, .int (iI (cn (rec σ a) (k + 1)))), (3, .int (iI (k : Int))), (0, .ref (g 0 0)), (1, .int (iI a))]) hx dX0_isOverCap_81 rfl (by decide) rfl ?_
          refine g_iinc (lv' := [(3, .int (iI ((k + 1 : Nat) : Int))), (2, .int (iI (cn (rec σ a) (k + 1)))), (0, .ref (g 0 0)), (1, .int (iI a))]) (b := ((k + 1 : Nat) : Int)) hx 1 dX0_isOverCap_82 rfl (by omega) (by decide) rfl ?_
          refine g_goto hx 4 dX0_isOverCap_85 (by decide) ?_
          exact g_lv [0, 1, 2, 3] rfl (ih_k (by omega))
        ·
          refine g_aload_n hx 2 dX0_isOverCap_51 rfl rfl ?_
          refine gq85 (v := .ref (g 1 0)) hx rfl dX0_isOverCap_52 hR.o rfl ?_
          refine g_iload_n hx 0 dX0_isOverCap_55 rfl rfl ?_
          refine g_pcallV (rest := [.int (iI (cn (rec σ a) k))]) (na := 1) hx (k_get l G M (g 1 0) (1, 0) (1, 1) N (g 10) hR.ls k (by omega)) ((al_cell hR.ls).choose_spec.choose_spec) rfl (lw_V q164 q165 q166 q34 q167) rfl rfl (by decide +kernel) rfl ⟨Nat.le_of_ble_eq_true rfl, Nat.le_of_ble_eq_true rfl⟩ rfl (Nat.le_of_ble_eq_true rfl) dX0_isOverCap_56 ⟨Nat.zero_le _, Nat.zero_le _⟩ ?_
          refine g_cast hx (hR.al (i := k) (by omega)) rfl q178 dX0_isOverCap_59 ?_
          refine gq211 (v := .int (iI (σ 1 k))) hx rfl dX0_isOverCap_62 (hR.al (i := k) (by omega)) rfl ?_
          refine g_aload_n hx 2 dX0_isOverCap_65 rfl rfl ?_
          refine gq81 (v := .int (iI (σ 0 0))) hx rfl dX0_isOverCap_66 hR.o rfl ?_
          refine g_bipush hx dX0_isOverCap_69 (by decide) ?_
          refine g_isub hx dX0_isOverCap_71 ?_
          refine g_icmp_le hx 79 (by omega) (by omega) dX0_isOverCap_72 (by decide) (fun c_72 => ?_) (fun c_72 => ?_)
          ·
            refine g_iconst hx dX0_isOverCap_79 ?_
            refine g_iadd hx dX0_isOverCap_80 ?_
            refine g_top (b := cn (rec σ a) (k + 1)) (cn_n (fun h => by obtain ⟨h1, h2, h3⟩ := h; first | omega | (exact absurd h2 (by assumption)))) ?_
            refine g_istore_n (lv' := [(2, .int (iI (cn (rec σ a) (k + 1)))), (3, .int (iI (k : Int))), (0, .ref (g 0 0)), (1, .int (iI a))]) hx dX0_isOverCap_81 rfl (by decide) rfl ?_
            refine g_iinc (lv' := [(3, .int (iI ((k + 1 : Nat) : Int))), (2, .int (iI (cn (rec σ a) (k + 1)))), (0, .ref (g 0 0)), (1, .int (iI a))]) (b := ((k + 1 : Nat) : Int)) hx 1 dX0_isOverCap_82 rfl (by omega) (by decide) rfl ?_
            refine g_goto hx 4 dX0_isOverCap_85 (by decide) ?_
            exact g_lv [0, 1, 2, 3] rfl (ih_k (by omega))
          ·
            refine g_iconst hx dX0_isOverCap_75 ?_
            refine g_goto hx 80 dX0_isOverCap_76 (by decide) ?_
            refine g_iadd hx dX0_isOverCap_80 ?_
            refine g_top (b := cn (rec σ a) (k + 1)) (cn_y ⟨by omega, by assumption, by omega⟩) ?_
            refine g_istore_n (lv' := [(2, .int (iI (cn (rec σ a) (k + 1)))), (3, .int (iI (k : Int))), (0, .ref (g 0 0)), (1, .int (iI a))]) hx dX0_isOverCap_81 rfl (by decide) rfl ?_
            refine g_iinc (lv' := [(3, .int (iI ((k + 1 : Nat) : Int))), (2, .int (iI (cn (rec σ a) (k + 1)))), (0, .ref (g 0 0)), (1, .int (iI a))]) (b := ((k + 1 : Nat) : Int)) hx 1 dX0_isOverCap_82 rfl (by omega) (by decide) rfl ?_
            refine g_goto hx 4 dX0_isOverCap_85 (by decide) ?_
            exact g_lv [0, 1, 2, 3] rfl (ih_k (by omega))
  exact g_lv [0, 1, 2, 3] rfl (lp_1 0 (Nat.zero_le _))
theorem k_countAt (l : Launch) (G : gG) (g : gA2) (M : gH) (σ : sT) (N : Nat) (lf : Int) (B : Nat) (hI : Iv σ N B) (hR : RC G g M σ N lf) (d : Nat) (hd : d ≤ 4) (m : Int) (hm : 0 ≤ m ∧ m ≤ 4095) (w : Nat) (hw : w ≤ 2) : GMet l yX0_countAt (ws_ yX0_countAt cX0_countAt 7 (some .int)) ({ frames := 3, cells := 0, slots := 0, locals := 64 } : Room) G [.ref (g 0 0), .int (iI (d : Int)), .int (iI m), .int (iI (w : Int))] M (pI M (nod σ N d m w)) 0 0 := by
  refine g_start (by decide) (Nat.le_of_ble_eq_true rfl) (fun x hx => ?_)
  have hb0 := hI.1
  refine g_iconst hx dX0_countAt_0 ?_
  refine g_istore (lv' := [(4, .int (iI 0)), (0, .ref (g 0 0)), (1, .int (iI (d : Int))), (2, .int (iI m)), (3, .int (iI (w : Int)))]) hx dX0_countAt_1 (by decide) rfl ?_
  refine g_iconst hx dX0_countAt_3 ?_
  refine g_istore (lv' := [(5, .int (iI 0)), (4, .int (iI 0)), (0, .ref (g 0 0)), (1, .int (iI (d : Int))), (2, .int (iI m)), (3, .int (iI (w : Int)))]) hx dX0_countAt_4 (by decide) rfl ?_
  have lp_1 : ∀ k : Nat, k ≤ N → GW x (gQx x (pI M (nod σ N d m w)) 0 0) M 0 0 6 [(5, .int (iI (k : Int))), (4, .int (iI (cn (fun i => atD σ i d m ∧ kd w (σ 10 i)) k))), (0, .ref (g 0 0)), (1, .int (iI (d : Int))), (2, .int (iI m)), (3, .int (iI (w : Int)))] [] := by
    refine down N (fun k hk_k ih_k => ?_)
    have hcn := cn_rg (fun i => atD σ i d m ∧ kd w (σ 10 i)) k
    refine g_iload hx 0 dX0_countAt_6 rfl ?_
    refine g_aload_n hx 2 dX0_countAt_8 rfl rfl ?_
    refine gq85 (v := .ref (g 1 0)) hx rfl dX0_countAt_9 hR.o rfl ?_
    refine g_pcallV (rest := [.int (iI (k : Int))]) (na := 0) hx (k_size l G M (g 1 0) (1, 0) (1, 1) N (g 10) hR.ls) ((al_cell hR.ls).choose_spec.choose_spec) rfl (lw_V q160 q161 q162 q34 q163) rfl rfl (by decide +kernel) rfl ⟨Nat.le_of_ble_eq_true rfl, Nat.le_of_ble_eq_true rfl⟩ rfl (Nat.le_of_ble_eq_true rfl) dX0_countAt_12 ⟨Nat.zero_le _, Nat.zero_le _⟩ ?_
    refine g_icmp_ge hx 108 (by omega) (by omega) dX0_countAt_15 (by decide) (fun c_15 => ?_) (fun c_15 => ?_)
    ·
      refine g_iload hx 1 dX0_countAt_108 rfl ?_
      exact g_iret hx (Nat.zero_le _) (Nat.zero_le _) dX0_countAt_110 (pI_ok (by show _ = cn _ N; rw [show N = k by omega]))
    ·
      have hb := (hI.2.1 k (by omega)).1; unfold okA at hb
      refine g_aload_n hx 2 dX0_countAt_18 rfl rfl ?_
      refine gq85 (v := .ref (g 1 0)) hx rfl dX0_countAt_19 hR.o rfl ?_
      refine g_iload hx 0 dX0_countAt_22 rfl ?_
      refine g_pcallV (rest := []) (na := 1) hx (k_get l G M (g 1 0) (1, 0) (1, 1) N (g 10) hR.ls k (by omega)) ((al_cell hR.ls).choose_spec.choose_spec) rfl (lw_V q164 q165 q166 q34 q167) rfl rfl (by decide +kernel) rfl ⟨Nat.le_of_ble_eq_true rfl, Nat.le_of_ble_eq_true rfl⟩ rfl (Nat.le_of_ble_eq_true rfl) dX0_countAt_24 ⟨Nat.zero_le _, Nat.zero_le _⟩ ?_
      refine g_cast hx (hR.al (i := k) (by omega)) rfl q178 dX0_countAt_27 ?_
      refine g_astore (lv' := [(6, .ref (g 10 k)), (5, .int (iI (k : Int))), (4, .int (iI (cn (fun i => atD σ i d m ∧ kd w (σ 10 i)) k))), (0, .ref (g 0 0)), (1, .int (iI (d : Int))), (2, .int (iI m)), (3, .int (iI (w : Int)))]) hx dX0_countAt_30 (by decide) rfl ?_
      refine g_aload hx 0 dX0_countAt_32 rfl ?_
      refine g_iload_n hx 4 dX0_countAt_34 rfl rfl ?_
      refine g_iload_n hx 5 dX0_countAt_35 rfl rfl ?_
      refine g_pcallV (rest := []) (na := 2) hx (k_isAt l G g M σ N lf B hI hR k (by omega) d hd m (by omega)) (hR.al (i := k) (by omega)) rfl (lw_V q340 q341 q342 q38 q343) rfl rfl (by decide +kernel) rfl ⟨Nat.le_of_ble_eq_true rfl, Nat.le_of_ble_eq_true rfl⟩ rfl (Nat.le_of_ble_eq_true rfl) dX0_countAt_36 ⟨Nat.zero_le _, Nat.zero_le _⟩ ?_
      refine g_if_eqP hx 102 dX0_countAt_39 (by decide) (fun c_39 => ?_) (fun c_39 => ?_)
      ·
        refine g_lv (lv' := [(6, .ref (g 10 k)), (5, .int (iI (k : Int))), (4, .int (iI (cn (fun i => atD σ i d m ∧ kd w (σ 10 i)) (k + 1)))), (0, .ref (g 0 0)), (1, .int (iI (d : Int))), (2, .int (iI m)), (3, .int (iI (w : Int)))]) [0, 1, 2, 3, 4, 5, 6] (by rw [← cn_n' (P := (fun i => atD σ i d m ∧ kd w (σ 10 i))) (k := k) (fun h => c_39 h.1)]; rfl) ?_
        refine g_iinc (lv' := [(5, .int (iI ((k + 1 : Nat) : Int))), (6, .ref (g 10 k)), (4, .int (iI (cn (fun i => atD σ i d m ∧ kd w (σ 10 i)) (k + 1)))), (0, .ref (g 0 0)), (1, .int (iI (d : Int))), (2, .int (iI m)), (3, .int (iI (w : Int)))]) (b := ((k + 1 : Nat) : Int)) hx 1 dX0_countAt_102 rfl (by omega) (by decide) rfl ?_
        refine g_goto hx 6 dX0_countAt_105 (by decide) ?_
        exact g_lv [0, 2, 3, 4, 5, 6] rfl (ih_k (by omega))
      ·
        refine g_iload hx 2 dX0_countAt_42 rfl ?_
        refine g_iload_n hx 6 dX0_countAt_44 rfl rfl ?_
        refine g_if_ne hx 65 (by omega) dX0_countAt_45 (by decide) (fun c_45 => ?_) (fun c_45 => ?_)
        ·
          refine g_iload_n hx 6 dX0_countAt_65 rfl rfl ?_
          refine g_iconst hx dX0_countAt_66 ?_
          refine g_icmp_ne hx 86 (by omega) (by omega) dX0_countAt_67 (by decide) (fun c_67 => ?_) (fun c_67 => ?_)
          ·
            refine g_aload hx 0 dX0_countAt_86 rfl ?_
            refine gq230 (v := .int (iI (σ 10 k))) hx rfl dX0_countAt_88 (hR.al (i := k) (by omega)) rfl ?_
            refine g_if_ne hx 98 (by omega) dX0_countAt_91 (by decide) (fun c_91 => ?_) (fun c_91 => ?_)
            ·
              refine g_iconst hx dX0_countAt_98 ?_
              refine g_iadd hx dX0_countAt_99 ?_
              refine g_top (b := cn (fun i => atD σ i d m ∧ kd w (σ 10 i)) (k + 1)) (cn_n (fun h => by have h2 := h.2; unfold kd at h2; omega)) ?_
              refine g_istore (lv' := [(4, .int (iI (cn (fun i => atD σ i d m ∧ kd w (σ 10 i)) (k + 1)))), (6, .ref (g 10 k)), (5, .int (iI (k : Int))), (0, .ref (g 0 0)), (1, .int (iI (d : Int))), (2, .int (iI m)), (3, .int (iI (w : Int)))]) hx dX0_countAt_100 (by decide) rfl ?_
              refine g_iinc (lv' := [(5, .int (iI ((k + 1 : Nat) : Int))), (4, .int (iI (cn (fun i => atD σ i d m ∧ kd w (σ 10 i)) (k + 1)))), (6, .ref (g 10 k)), (0, .ref (g 0 0)), (1, .int (iI (d : Int))), (2, .int (iI m)), (3, .int (iI (w : Int)))]) (b := ((k + 1 : Nat) : Int)) hx 2 dX0_countAt_102 rfl (by omega) (by decide) rfl ?_
              refine g_goto hx 6 dX0_countAt_105 (by decide) ?_
              exact g_lv [0, 1, 3, 4, 5, 6] rfl (ih_k (by omega))
            ·
              refine g_iconst hx dX0_countAt_94 ?_
              refine g_goto hx 99 dX0_countAt_95 (by decide) ?_
              refine g_iadd hx dX0_countAt_99 ?_
              refine g_top (b := cn (fun i => atD σ i d m ∧ kd w (σ 10 i)) (k + 1)) (cn_y ⟨c_39, by unfold kd; omega⟩) ?_
              refine g_istore (lv' := [(4, .int (iI (cn (fun i => atD σ i d m ∧ kd w (σ 10 i)) (k + 1)))), (6, .ref (g 10 k)), (5, .int (iI (k : Int))), (0, .ref (g 0 0)), (1, .int (iI (d : Int))), (2, .int (iI m)), (3, .int (iI (w : Int)))]) hx dX0_countAt_100 (by decide) rfl ?_
              refine g_iinc (lv' := [(5, .int (iI ((k + 1 : Nat) : Int))), (4, .int (iI (cn (fun i => atD σ i d m ∧ kd w (σ 10 i)) (k + 1)))), (6, .ref (g 10 k)), (0, .ref (g 0 0)), (1, .int (iI (d : Int))), (2, .int (iI m)), (3, .int (iI (w : Int)))]) (b := ((k + 1 : Nat) : Int)) hx 2 dX0_countAt_102 rfl (by omega) (by decide) rfl ?_
              refine g_goto hx 6 dX0_countAt_105 (by decide) ?_
              exact g_lv [0, 1, 3, 4, 5, 6] rfl (ih_k (by omega))
          ·
            refine g_aload hx 0 dX0_countAt_70 rfl ?_
            refine gq230 (v := .int (iI (σ 10 k))) hx rfl dX0_countAt_72 (hR.al (i := k) (by omega)) rfl ?_
            refine g_if_eq hx 82 (by omega) dX0_countAt_75 (by decide) (fun c_75 => ?_) (fun c_75 => ?_)
            ·
              refine g_iconst hx dX0_countAt_82 ?_
              refine g_goto hx 99 dX0_countAt_83 (by decide) ?_
              refine g_iadd hx dX0_countAt_99 ?_
              refine g_top (b := cn (fun i => atD σ i d m ∧ kd w (σ 10 i)) (k + 1)) (cn_n (fun h => by have h2 := h.2; unfold kd at h2; omega)) ?_
              refine g_istore (lv' := [(4, .int (iI (cn (fun i => atD σ i d m ∧ kd w (σ 10 i)) (k + 1)))), (6, .ref (g 10 k)), (5, .int (iI (k : Int))), (0, .ref (g 0 0)), (1, .int (iI (d : Int))), (2, .int (iI m)), (3, .int (iI (w : Int)))]) hx dX0_countAt_100 (by decide) rfl ?_
              refine g_iinc (lv' := [(5, .int (iI ((k + 1 : Nat) : Int))), (4, .int (iI (cn (fun i => atD σ i d m ∧ kd w (σ 10 i)) (k + 1)))), (6, .ref (g 10 k)), (0, .ref (g 0 0)), (1, .int (iI (d : Int))), (2, .int (iI m)), (3, .int (iI (w : Int)))]) (b := ((k + 1 : Nat) : Int)) hx 2 dX0_countAt_102 rfl (by omega) (by decide) rfl ?_
              refine g_goto hx 6 dX0_countAt_105 (by decide) ?_
              exact g_lv [0, 1, 3, 4, 5, 6] rfl (ih_k (by omega))
            ·
              refine g_iconst hx dX0_countAt_78 ?_
              refine g_goto hx 99 dX0_countAt_79 (by decide) ?_
              refine g_iadd hx dX0_countAt_99 ?_
              refine g_top (b := cn (fun i => atD σ i d m ∧ kd w (σ 10 i)) (k + 1)) (cn_y ⟨c_39, by unfold kd; omega⟩) ?_
              refine g_istore (lv' := [(4, .int (iI (cn (fun i => atD σ i d m ∧ kd w (σ 10 i)) (k + 1)))), (6, .ref (g 10 k)), (5, .int (iI (k : Int))), (0, .ref (g 0 0)), (1, .int (iI (d : Int))), (2, .int (iI m)), (3, .int (iI (w : Int)))]) hx dX0_countAt_100 (by decide) rfl ?_
              refine g_iinc (lv' := [(5, .int (iI ((k + 1 : Nat) : Int))), (4, .int (iI (cn (fun i => atD σ i d m ∧ kd w (σ 10 i)) (k + 1)))), (6, .ref (g 10 k)), (0, .ref (g 0 0)), (1, .int (iI (d : Int))), (2, .int (iI m)), (3, .int (iI (w : Int)))]) (b := ((k + 1 : Nat) : Int)) hx 2 dX0_countAt_102 rfl (by omega) (by decide) rfl ?_
              refine g_goto hx 6 dX0_countAt_105 (by decide) ?_
              exact g_lv [0, 1, 3, 4, 5, 6] rfl (ih_k (by omega))
        ·
          refine g_aload hx 0 dX0_countAt_48 rfl ?_
          refine gq230 (v := .int (iI (σ 10 k))) hx rfl dX0_countAt_50 (hR.al (i := k) (by omega)) rfl ?_
          refine g_iconst hx dX0_countAt_53 ?_
          refine g_icmp_ne hx 61 (by omega) (by omega) dX0_countAt_54 (by decide) (fun c_54 => ?_) (fun c_54 => ?_)
          ·
            refine g_iconst hx dX0_countAt_61 ?_
            refine g_goto hx 99 dX0_countAt_62 (by decide) ?_
            refine g_iadd hx dX0_countAt_99 ?_
            refine g_top (b := cn (fun i => atD σ i d m ∧ kd w (σ 10 i)) (k + 1)) (cn_n (fun h => by have h2 := h.2; unfold kd at h2; omega)) ?_
            refine g_istore (lv' := [(4, .int (iI (cn (fun i => atD σ i d m ∧ kd w (σ 10 i)) (k + 1)))), (6, .ref (g 10 k)), (5, .int (iI (k : Int))), (0, .ref (g 0 0)), (1, .int (iI (d : Int))), (2, .int (iI m)), (3, .int (iI (w : Int)))]) hx dX0_countAt_100 (by decide) rfl ?_
            refine g_iinc (lv' := [(5, .int (iI ((k + 1 : Nat) : Int))), (4, .int (iI (cn (fun i => atD σ i d m ∧ kd w (σ 10 i)) (k + 1)))), (6, .ref (g 10 k)), (0, .ref (g 0 0)), (1, .int (iI (d : Int))), (2, .int (iI m)), (3, .int (iI (w : Int)))]) (b := ((k + 1 : Nat) : Int)) hx 2 dX0_countAt_102 rfl (by omega) (by decide) rfl ?_
            refine g_goto hx 6 dX0_countAt_105 (by decide) ?_
            exact g_lv [0, 1, 3, 4, 5, 6] rfl (ih_k (by omega))
          ·
            refine g_iconst hx dX0_countAt_57 ?_
            refine g_goto hx 99 dX0_countAt_58 (by decide) ?_
            refine g_iadd hx dX0_countAt_99 ?_
            refine g_top (b := cn (fun i => atD σ i d m ∧ kd w (σ 10 i)) (k + 1)) (cn_y ⟨c_39, by unfold kd; omega⟩) ?_
            refine g_istore (lv' := [(4, .int (iI (cn (fun i => atD σ i d m ∧ kd w (σ 10 i)) (k + 1)))), (6, .ref (g 10 k)), (5, .int (iI (k : Int))), (0, .ref (g 0 0)), (1, .int (iI (d : Int))), (2, .int (iI m)), (3, .int (iI (w : Int)))]) hx dX0_countAt_100 (by decide) rfl ?_
            refine g_iinc (lv' := [(5, .int (iI ((k + 1 : Nat) : Int))), (4, .int (iI (cn (fun i => atD σ i d m ∧ kd w (σ 10 i)) (k + 1)))), (6, .ref (g 10 k)), (0, .ref (g 0 0)), (1, .int (iI (d : Int))), (2, .int (iI m)), (3, .int (iI (w : Int)))]) (b := ((k + 1 : Nat) : Int)) hx 2 dX0_countAt_102 rfl (by omega) (by decide) rfl ?_
            refine g_goto hx 6 dX0_countAt_105 (by decide) ?_
            exact g_lv [0, 1, 3, 4, 5, 6] rfl (ih_k (by omega))
  exact g_lv [0, 1, 2, 3, 4, 5] rfl (lp_1 0 (Nat.zero_le _))
