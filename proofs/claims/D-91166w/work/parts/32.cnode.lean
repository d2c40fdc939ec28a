/-! THE CLASS: nodes, odds, ties, sums -/
set_option maxRecDepth 100000
theorem mul_rg {a b A B : Int} (ha : 0 ≤ a ∧ a ≤ A) (hb : 0 ≤ b ∧ b ≤ B) : 0 ≤ a * b ∧ a * b ≤ A * B := ⟨Int.mul_nonneg ha.1 hb.1, Int.mul_le_mul ha.2 hb.2 hb.1 (by omega)⟩
/-- sums -/
def sm (f : Nat → Int) : Nat → Int
  | 0 => 0
  | k + 1 => sm f k + f k
theorem sm_c {f f' : Nat → Int} (k : Nat) (h : ∀ i, i < k → f i = f' i) : sm f k = sm f' k := by
  induction k with
  | zero => rfl
  | succ k ih => simp only [sm]; rw [ih (fun i hi => h i (by omega)), h k (by omega)]
theorem sm_rg {f : Nat → Int} (C : Int) (k : Nat) (h : ∀ i, i < k → 0 ≤ f i ∧ f i ≤ C) : 0 ≤ sm f k ∧ sm f k ≤ C * k := by
  induction k with
  | zero => simp [sm]
  | succ k ih =>
    have h1 := ih (fun i hi => h i (by omega))
    have h2 := h k (by omega)
    simp only [sm]
    rw [show ((k + 1 : Nat) : Int) = (k : Int) + 1 by omega, Int.mul_add]
    omega
/-- node(d, marks, what) -/
noncomputable def nodeS (σ : sT) (N : Nat) (d m w : Int) : Int := @ite Int ((0 ≤ d ∧ d ≤ 4) ∧ (0 ≤ m ∧ m ≤ 4095) ∧ (0 ≤ w ∧ w ≤ 2)) (Classical.propDecidable _) (nod σ N d.toNat m w.toNat) (-1)
theorem kc_node (l : Launch) (G : gG) (g : gA2) (M : gH) (σ : sT) (N : Nat) (lf : Int) (B : Nat) (hI : Iv σ N B) (hR : RC G g M σ N lf) (a b c : Int) (ha : -2147483648 ≤ a ∧ a ≤ 2147483647) (hb : -2147483648 ≤ b ∧ b ≤ 2147483647) (hc : -2147483648 ≤ c ∧ c ≤ 2147483647) : GMet l yX0_node (ws_ yX0_node cX0_node 4 (some .int)) ({ frames := 4, cells := 0, slots := 0, locals := 90 } : Room) G [.ref (g 0 0), .int (iI a), .int (iI b), .int (iI c)] M (pI M (nodeS σ N a b c)) 0 0 := by
  refine g_start (by decide) (Nat.le_of_ble_eq_true rfl) (fun x hx => ?_)
  have hb0 := hI.1
  refine g_iload_n hx 1 dX0_node_0 rfl rfl ?_
  refine g_iconst hx dX0_node_1 ?_
  refine g_iconst hx dX0_node_2 ?_
  refine g_pcallS (rest := []) (na := 3) hx (k_isIn l G M a 0 4 (by omega) (by omega) (by omega)) (lw_S q145 q146 q31 q147) rfl rfl (by decide +kernel) rfl ⟨Nat.le_of_ble_eq_true rfl, Nat.le_of_ble_eq_true rfl⟩ rfl (Nat.le_of_ble_eq_true rfl) dX0_node_3 ⟨Nat.zero_le _, Nat.zero_le _⟩ ?_
  refine g_if_eqP hx 39 dX0_node_6 (by decide) (fun c_6 => ?_) (fun c_6 => ?_)
  ·
    refine g_iconst hx dX0_node_39 ?_
    exact g_iret hx (Nat.zero_le _) (Nat.zero_le _) dX0_node_40 (pI_ok (by unfold nodeS; rw [if_neg (by omega)]))
  ·
    refine g_iload_n hx 2 dX0_node_9 rfl rfl ?_
    refine g_iconst hx dX0_node_10 ?_
    refine g_sipush hx dX0_node_11 (by decide) ?_
    refine g_pcallS (rest := []) (na := 3) hx (k_isIn l G M b 0 4095 (by omega) (by omega) (by omega)) (lw_S q145 q146 q31 q147) rfl rfl (by decide +kernel) rfl ⟨Nat.le_of_ble_eq_true rfl, Nat.le_of_ble_eq_true rfl⟩ rfl (Nat.le_of_ble_eq_true rfl) dX0_node_14 ⟨Nat.zero_le _, Nat.zero_le _⟩ ?_
    refine g_if_eqP hx 39 dX0_node_17 (by decide) (fun c_17 => ?_) (fun c_17 => ?_)
    ·
      refine g_iconst hx dX0_node_39 ?_
      exact g_iret hx (Nat.zero_le _) (Nat.zero_le _) dX0_node_40 (pI_ok (by unfold nodeS; rw [if_neg (by omega)]))
    ·
      refine g_iload_n hx 3 dX0_node_20 rfl rfl ?_
      refine g_iconst hx dX0_node_21 ?_
      refine g_iconst hx dX0_node_22 ?_
      refine g_pcallS (rest := []) (na := 3) hx (k_isIn l G M c 0 2 (by omega) (by omega) (by omega)) (lw_S q145 q146 q31 q147) rfl rfl (by decide +kernel) rfl ⟨Nat.le_of_ble_eq_true rfl, Nat.le_of_ble_eq_true rfl⟩ rfl (Nat.le_of_ble_eq_true rfl) dX0_node_23 ⟨Nat.zero_le _, Nat.zero_le _⟩ ?_
      refine g_if_eqP hx 39 dX0_node_26 (by decide) (fun c_26 => ?_) (fun c_26 => ?_)
      ·
        refine g_iconst hx dX0_node_39 ?_
        exact g_iret hx (Nat.zero_le _) (Nat.zero_le _) dX0_node_40 (pI_ok (by unfold nodeS; rw [if_neg (by omega)]))
      ·
        refine g_aload_n hx 0 dX0_node_29 rfl rfl ?_
        refine g_iload_n hx 1 dX0_node_30 rfl rfl ?_
        refine g_iload_n hx 2 dX0_node_31 rfl rfl ?_
        refine g_iload_n hx 3 dX0_node_32 rfl rfl ?_
        refine g_st (st' := [.int (iI (c.toNat : Int)), .int (iI b), .int (iI (a.toNat : Int)), .ref (g 0 0)]) (by rw [show (c.toNat : Int) = c by omega, show (a.toNat : Int) = a by omega]) ?_
        refine g_pcallV (rest := []) (na := 3) hx (k_countAt l G g M σ N lf B hI hR a.toNat (by omega) b (by omega) c.toNat (by omega)) hR.o rfl (lw_V q336 q338 qs6 q31 q339) rfl rfl (by decide +kernel) rfl ⟨Nat.le_of_ble_eq_true rfl, Nat.le_of_ble_eq_true rfl⟩ rfl (Nat.le_of_ble_eq_true rfl) dX0_node_33 ⟨Nat.zero_le _, Nat.zero_le _⟩ ?_
        refine g_goto hx 40 dX0_node_36 (by decide) ?_
        exact g_iret hx (Nat.zero_le _) (Nat.zero_le _) dX0_node_40 (pI_ok (by unfold nodeS; rw [if_pos (by omega)]))
theorem kc_depthOf (l : Launch) (G : gG) (g : gA2) (M : gH) (σ : sT) (N : Nat) (lf : Int) (B : Nat) (hI : Iv σ N B) (hR : RC G g M σ N lf) (i : Nat) (hi : i < N) : GMet l yX0_depthOf (ws_ yX0_depthOf cX0_depthOf 3 (some .int)) ({ frames := 4, cells := 0, slots := 0, locals := 90 } : Room) G [.ref (g 0 0), .ref (g 10 i)] M (pI M (dep σ N i : Int)) 0 0 := by
  refine g_start (by decide) (Nat.le_of_ble_eq_true rfl) (fun x hx => ?_)
  have hb0 := hI.1
  have hb := (hI.2.1 i hi).1
  unfold okA at hb
  refine g_iconst hx dX0_depthOf_0 ?_
  refine g_istore_n (lv' := [(2, .int (iI 4)), (0, .ref (g 0 0)), (1, .ref (g 10 i))]) hx dX0_depthOf_1 rfl (by decide) rfl ?_
  refine g_iload_n hx 0 dX0_depthOf_2 rfl rfl ?_
  refine g_if_le hx 31 (by omega) dX0_depthOf_3 (by decide) (fun c_3 => ?_) (fun c_3 => ?_)
  ·
    exact absurd c_3 (by decide)
  ·
    refine g_aload_n hx 1 dX0_depthOf_6 rfl rfl ?_
    refine g_iload_n hx 0 dX0_depthOf_7 rfl rfl ?_
    refine g_aload_n hx 2 dX0_depthOf_8 rfl rfl ?_
    refine gq217 (v := .int (iI (σ 4 i))) hx rfl dX0_depthOf_9 (hR.al (i := i) (by omega)) rfl ?_
    refine g_iconst hx dX0_depthOf_12 ?_
    refine g_pcallV (rest := []) (na := 3) hx (k_countAt l G g M σ N lf B hI hR 4 (by omega) (σ 4 i) (by omega) 1 (by omega)) hR.o rfl (lw_V q336 q338 qs6 q31 q339) rfl rfl (by decide +kernel) rfl ⟨Nat.le_of_ble_eq_true rfl, Nat.le_of_ble_eq_true rfl⟩ rfl (Nat.le_of_ble_eq_true rfl) dX0_depthOf_13 ⟨Nat.zero_le _, Nat.zero_le _⟩ ?_
    have hn_4 := nod_rg σ N 4 (σ 4 i) 1
    refine g_aload_n hx 1 dX0_depthOf_16 rfl rfl ?_
    refine gq83 (v := .int (iI (σ 0 2))) hx rfl dX0_depthOf_17 hR.o rfl ?_
    refine g_icmp_lt hx 25 (by omega) (by omega) dX0_depthOf_20 (by decide) (fun c_20 => ?_) (fun c_20 => ?_)
    ·
      refine g_iinc (lv' := [(2, .int (iI 3)), (0, .ref (g 0 0)), (1, .ref (g 10 i))]) (b := 3) hx 0 dX0_depthOf_25 rfl rfl (by decide) rfl ?_
      refine g_goto hx 2 dX0_depthOf_28 (by decide) ?_
      refine g_iload_n hx 0 dX0_depthOf_2 rfl rfl ?_
      refine g_if_le hx 31 (by omega) dX0_depthOf_3 (by decide) (fun c_3 => ?_) (fun c_3 => ?_)
      ·
        exact absurd c_3 (by decide)
      ·
        refine g_aload_n hx 1 dX0_depthOf_6 rfl rfl ?_
        refine g_iload_n hx 0 dX0_depthOf_7 rfl rfl ?_
        refine g_aload_n hx 2 dX0_depthOf_8 rfl rfl ?_
        refine gq217 (v := .int (iI (σ 4 i))) hx rfl dX0_depthOf_9 (hR.al (i := i) (by omega)) rfl ?_
        refine g_iconst hx dX0_depthOf_12 ?_
        refine g_pcallV (rest := []) (na := 3) hx (k_countAt l G g M σ N lf B hI hR 3 (by omega) (σ 4 i) (by omega) 1 (by omega)) hR.o rfl (lw_V q336 q338 qs6 q31 q339) rfl rfl (by decide +kernel) rfl ⟨Nat.le_of_ble_eq_true rfl, Nat.le_of_ble_eq_true rfl⟩ rfl (Nat.le_of_ble_eq_true rfl) dX0_depthOf_13 ⟨Nat.zero_le _, Nat.zero_le _⟩ ?_
        have hn_3 := nod_rg σ N 3 (σ 4 i) 1
        refine g_aload_n hx 1 dX0_depthOf_16 rfl rfl ?_
        refine gq83 (v := .int (iI (σ 0 2))) hx rfl dX0_depthOf_17 hR.o rfl ?_
        refine g_icmp_lt hx 25 (by omega) (by omega) dX0_depthOf_20 (by decide) (fun c_20 => ?_) (fun c_20 => ?_)
        ·
          refine g_iinc (lv' := [(2, .int (iI 2)), (0, .ref (g 0 0)), (1, .ref (g 10 i))]) (b := 2) hx 0 dX0_depthOf_25 rfl rfl (by decide) rfl ?_
          refine g_goto hx 2 dX0_depthOf_28 (by decide) ?_
          refine g_iload_n hx 0 dX0_depthOf_2 rfl rfl ?_
          refine g_if_le hx 31 (by omega) dX0_depthOf_3 (by decide) (fun c_3 => ?_) (fun c_3 => ?_)
          ·
            exact absurd c_3 (by decide)
          ·
            refine g_aload_n hx 1 dX0_depthOf_6 rfl rfl ?_
            refine g_iload_n hx 0 dX0_depthOf_7 rfl rfl ?_
            refine g_aload_n hx 2 dX0_depthOf_8 rfl rfl ?_
            refine gq217 (v := .int (iI (σ 4 i))) hx rfl dX0_depthOf_9 (hR.al (i := i) (by omega)) rfl ?_
            refine g_iconst hx dX0_depthOf_12 ?_
            refine g_pcallV (rest := []) (na := 3) hx (k_countAt l G g M σ N lf B hI hR 2 (by omega) (σ 4 i) (by omega) 1 (by omega)) hR.o rfl (lw_V q336 q338 qs6 q31 q339) rfl rfl (by decide +kernel) rfl ⟨Nat.le_of_ble_eq_true rfl, Nat.le_of_ble_eq_true rfl⟩ rfl (Nat.le_of_ble_eq_true rfl) dX0_depthOf_13 ⟨Nat.zero_le _, Nat.zero_le _⟩ ?_
            have hn_2 := nod_rg σ N 2 (σ 4 i) 1
            refine g_aload_n hx 1 dX0_depthOf_16 rfl rfl ?_
            refine gq83 (v := .int (iI (σ 0 2))) hx rfl dX0_depthOf_17 hR.o rfl ?_
            refine g_icmp_lt hx 25 (by omega) (by omega) dX0_depthOf_20 (by decide) (fun c_20 => ?_) (fun c_20 => ?_)
            ·
              refine g_iinc (lv' := [(2, .int (iI 1)), (0, .ref (g 0 0)), (1, .ref (g 10 i))]) (b := 1) hx 0 dX0_depthOf_25 rfl rfl (by decide) rfl ?_
              refine g_goto hx 2 dX0_depthOf_28 (by decide) ?_
              refine g_iload_n hx 0 dX0_depthOf_2 rfl rfl ?_
              refine g_if_le hx 31 (by omega) dX0_depthOf_3 (by decide) (fun c_3 => ?_) (fun c_3 => ?_)
              ·
                exact absurd c_3 (by decide)
              ·
                refine g_aload_n hx 1 dX0_depthOf_6 rfl rfl ?_
                refine g_iload_n hx 0 dX0_depthOf_7 rfl rfl ?_
                refine g_aload_n hx 2 dX0_depthOf_8 rfl rfl ?_
                refine gq217 (v := .int (iI (σ 4 i))) hx rfl dX0_depthOf_9 (hR.al (i := i) (by omega)) rfl ?_
                refine g_iconst hx dX0_depthOf_12 ?_
                refine g_pcallV (rest := []) (na := 3) hx (k_countAt l G g M σ N lf B hI hR 1 (by omega) (σ 4 i) (by omega) 1 (by omega)) hR.o rfl (lw_V q336 q338 qs6 q31 q339) rfl rfl (by decide +kernel) rfl ⟨Nat.le_of_ble_eq_true rfl, Nat.le_of_ble_eq_true rfl⟩ rfl (Nat.le_of_ble_eq_true rfl) dX0_depthOf_13 ⟨Nat.zero_le _, Nat.zero_le _⟩ ?_
                have hn_1 := nod_rg σ N 1 (σ 4 i) 1
                refine g_aload_n hx 1 dX0_depthOf_16 rfl rfl ?_
                refine gq83 (v := .int (iI (σ 0 2))) hx rfl dX0_depthOf_17 hR.o rfl ?_
                refine g_icmp_lt hx 25 (by omega) (by omega) dX0_depthOf_20 (by decide) (fun c_20 => ?_) (fun c_20 => ?_)
                ·
                  refine g_iinc (lv' := [(2, .int (iI 0)), (0, .ref (g 0 0)), (1, .ref (g 10 i))]) (b := 0) hx 0 dX0_depthOf_25 rfl rfl (by decide) rfl ?_
                  refine g_goto hx 2 dX0_depthOf_28 (by decide) ?_
                  refine g_iload_n hx 0 dX0_depthOf_2 rfl rfl ?_
                  refine g_if_le hx 31 (by omega) dX0_depthOf_3 (by decide) (fun c_3 => ?_) (fun c_3 => ?_)
                  ·
                    refine g_iconst hx dX0_depthOf_31 ?_
                    exact g_iret hx (Nat.zero_le _) (Nat.zero_le _) dX0_depthOf_32 (pI_ok (by rw [show dep σ N i = 0 by unfold dep; rw [if_neg (by omega), if_neg (by omega), if_neg (by omega), if_neg (by omega)]]; rfl))
                  ·
                    exact absurd c_3 (by decide)
                ·
                  refine g_iload_n hx 0 dX0_depthOf_23 rfl rfl ?_
                  exact g_iret hx (Nat.zero_le _) (Nat.zero_le _) dX0_depthOf_24 (pI_ok (by rw [show dep σ N i = 1 by unfold dep; rw [if_neg (by omega), if_neg (by omega), if_neg (by omega), if_pos (by omega)]]; rfl))
            ·
              refine g_iload_n hx 0 dX0_depthOf_23 rfl rfl ?_
              exact g_iret hx (Nat.zero_le _) (Nat.zero_le _) dX0_depthOf_24 (pI_ok (by rw [show dep σ N i = 2 by unfold dep; rw [if_neg (by omega), if_neg (by omega), if_pos (by omega)]]; rfl))
        ·
          refine g_iload_n hx 0 dX0_depthOf_23 rfl rfl ?_
          exact g_iret hx (Nat.zero_le _) (Nat.zero_le _) dX0_depthOf_24 (pI_ok (by rw [show dep σ N i = 3 by unfold dep; rw [if_neg (by omega), if_pos (by omega)]]; rfl))
    ·
      refine g_iload_n hx 0 dX0_depthOf_23 rfl rfl ?_
      exact g_iret hx (Nat.zero_le _) (Nat.zero_le _) dX0_depthOf_24 (pI_ok (by rw [show dep σ N i = 4 by unfold dep; rw [if_pos (by omega)]]; rfl))
theorem kc_scoreOf (l : Launch) (G : gG) (g : gA2) (M : gH) (σ : sT) (N : Nat) (lf : Int) (B : Nat) (hI : Iv σ N B) (hR : RC G g M σ N lf) (i : Nat) (hi : i < N) : GMet l yX0_scoreOf (ws_ yX0_scoreOf cX0_scoreOf 4 (some .int)) ({ frames := 5, cells := 0, slots := 0, locals := 112 } : Room) G [.ref (g 0 0), .ref (g 10 i)] M (pI M (sco σ N i)) 0 0 := by
  refine g_start (by decide) (Nat.le_of_ble_eq_true rfl) (fun x hx => ?_)
  have hb0 := hI.1
  have hb := (hI.2.1 i hi).1
  unfold okA at hb
  have hd := dep_le σ N i
  have hn1 := nod_rg σ N (dep σ N i) (σ 4 i) 1
  have hn0 := nod_rg σ N (dep σ N i) (σ 4 i) 0
  refine g_aload_n hx 0 dX0_scoreOf_0 rfl rfl ?_
  refine g_aload_n hx 1 dX0_scoreOf_1 rfl rfl ?_
  refine g_pcallV (rest := []) (na := 1) hx (kc_depthOf l G g M σ N lf B hI hR i (by omega)) hR.o rfl (lw_V q348 q350 qs7 q31 q351) rfl rfl (by decide +kernel) rfl ⟨Nat.le_of_ble_eq_true rfl, Nat.le_of_ble_eq_true rfl⟩ rfl (Nat.le_of_ble_eq_true rfl) dX0_scoreOf_2 ⟨Nat.zero_le _, Nat.zero_le _⟩ ?_
  refine g_istore_n (lv' := [(2, .int (iI (dep σ N i : Int))), (0, .ref (g 0 0)), (1, .ref (g 10 i))]) hx dX0_scoreOf_5 rfl (by decide) rfl ?_
  refine g_aload_n hx 1 dX0_scoreOf_6 rfl rfl ?_
  refine g_iload_n hx 0 dX0_scoreOf_7 rfl rfl ?_
  refine g_aload_n hx 2 dX0_scoreOf_8 rfl rfl ?_
  refine gq217 (v := .int (iI (σ 4 i))) hx rfl dX0_scoreOf_9 (hR.al (i := i) (by omega)) rfl ?_
  refine g_iconst hx dX0_scoreOf_12 ?_
  refine g_pcallV (rest := []) (na := 3) hx (k_countAt l G g M σ N lf B hI hR (dep σ N i) (by omega) (σ 4 i) (by omega) 1 (by omega)) hR.o rfl (lw_V q336 q338 qs6 q31 q339) rfl rfl (by decide +kernel) rfl ⟨Nat.le_of_ble_eq_true rfl, Nat.le_of_ble_eq_true rfl⟩ rfl (Nat.le_of_ble_eq_true rfl) dX0_scoreOf_13 ⟨Nat.zero_le _, Nat.zero_le _⟩ ?_
  refine g_istore_n (lv' := [(3, .int (iI (nod σ N (dep σ N i) (σ 4 i) 1))), (2, .int (iI (dep σ N i : Int))), (0, .ref (g 0 0)), (1, .ref (g 10 i))]) hx dX0_scoreOf_16 rfl (by decide) rfl ?_
  refine g_iload_n hx 0 dX0_scoreOf_17 rfl rfl ?_
  refine g_if_ne hx 32 (by omega) dX0_scoreOf_18 (by decide) (fun c_18 => ?_) (fun c_18 => ?_)
  ·
    refine g_sipush hx dX0_scoreOf_32 (by decide) ?_
    refine g_aload_n hx 3 dX0_scoreOf_35 rfl rfl ?_
    refine gq219 (v := .int (iI (σ 5 i))) hx rfl dX0_scoreOf_36 (hR.al (i := i) (by omega)) rfl ?_
    refine g_imul hx dX0_scoreOf_39 ?_
    refine g_aload_n hx 2 dX0_scoreOf_40 rfl rfl ?_
    refine g_iload_n hx 1 dX0_scoreOf_41 rfl rfl ?_
    refine g_aload_n hx 3 dX0_scoreOf_42 rfl rfl ?_
    refine gq217 (v := .int (iI (σ 4 i))) hx rfl dX0_scoreOf_43 (hR.al (i := i) (by omega)) rfl ?_
    refine g_iconst hx dX0_scoreOf_46 ?_
    refine g_pcallV (rest := [.int (iI (1000 * (σ 5 i)))]) (na := 3) hx (k_countAt l G g M σ N lf B hI hR (dep σ N i) (by omega) (σ 4 i) (by omega) 0 (by omega)) hR.o rfl (lw_V q336 q338 qs6 q31 q339) rfl rfl (by decide +kernel) rfl ⟨Nat.le_of_ble_eq_true rfl, Nat.le_of_ble_eq_true rfl⟩ rfl (Nat.le_of_ble_eq_true rfl) dX0_scoreOf_47 ⟨Nat.zero_le _, Nat.zero_le _⟩ ?_
    refine g_imul hx dX0_scoreOf_50 ?_
    refine g_iload_n hx 0 dX0_scoreOf_51 rfl rfl ?_
    refine g_idiv hx dX0_scoreOf_52 (by have hz := mul_rg (a := 1000 * σ 5 i) (A := 100000) (B := 64) (by omega) (b := nod σ N (dep σ N i) (σ 4 i) 0) (by omega); omega) (by omega) ?_
    exact g_iret hx (Nat.zero_le _) (Nat.zero_le _) dX0_scoreOf_53 (pI_ok (by unfold sco; rw [if_neg c_18]))
  ·
    refine g_sipush hx dX0_scoreOf_21 (by decide) ?_
    refine g_aload_n hx 3 dX0_scoreOf_24 rfl rfl ?_
    refine gq219 (v := .int (iI (σ 5 i))) hx rfl dX0_scoreOf_25 (hR.al (i := i) (by omega)) rfl ?_
    refine g_imul hx dX0_scoreOf_28 ?_
    refine g_goto hx 53 dX0_scoreOf_29 (by decide) ?_
    exact g_iret hx (Nat.zero_le _) (Nat.zero_le _) dX0_scoreOf_53 (pI_ok (by unfold sco; rw [if_pos c_18]))
theorem gcd_st (x y : Nat) : Nat.gcd y (x % y) = Nat.gcd x y := by rw [Nat.gcd_comm x y, Nat.gcd_rec y x, Nat.gcd_comm]
theorem kc_common (l : Launch) (G : gG) (M : gH) (a b : Nat) (ha : a ≤ 100000) (hb : b ≤ 100000) : GMet l yX0_common (ws_ yX0_common cX0_common 5 (some .int)) ({ frames := 0, cells := 0, slots := 0, locals := 0 } : Room) G [.int (iI (a : Int)), .int (iI (b : Int))] M (pI M (Nat.gcd a b : Int)) 0 0 := by
  refine g_start (by decide) (Nat.le_of_ble_eq_true rfl) (fun x hx => ?_)
  refine g_iload_n hx 0 dX0_common_0 rfl rfl ?_
  refine g_istore_n (lv' := [(2, .int (iI (a : Int))), (0, .int (iI (a : Int))), (1, .int (iI (b : Int)))]) hx dX0_common_1 rfl (by decide) rfl ?_
  refine g_iload_n hx 2 dX0_common_2 rfl rfl ?_
  refine g_istore_n (lv' := [(3, .int (iI (b : Int))), (2, .int (iI (a : Int))), (0, .int (iI (a : Int))), (1, .int (iI (b : Int)))]) hx dX0_common_3 rfl (by decide) rfl ?_
  have lp : ∀ y0 : Nat, y0 ≤ 100000 → ∀ x0 : Nat, x0 ≤ 100000 → Nat.gcd x0 y0 = Nat.gcd a b → GW x (gQx x (pI M (Nat.gcd a b : Int)) 0 0) M 0 0 4 [(2, .int (iI (x0 : Int))), (3, .int (iI (y0 : Int))), (0, .int (iI (a : Int))), (1, .int (iI (b : Int)))] [] := by
    intro y0
    refine upw (P := fun y0 => y0 ≤ 100000 → ∀ x0 : Nat, x0 ≤ 100000 → Nat.gcd x0 y0 = Nat.gcd a b → GW x (gQx x (pI M (Nat.gcd a b : Int)) 0 0) M 0 0 4 [(2, .int (iI (x0 : Int))), (3, .int (iI (y0 : Int))), (0, .int (iI (a : Int))), (1, .int (iI (b : Int)))] []) (fun y0 ih hy x0 hx0 hg => ?_) y0
    refine g_iload_n hx 1 dX0_common_4 rfl rfl ?_
    refine g_if_eq hx 21 (by omega) dX0_common_5 (by decide) (fun c_5 => ?_) (fun c_5 => ?_)
    ·
      refine g_iload_n hx 0 dX0_common_21 rfl rfl ?_
      exact g_iret hx (Nat.zero_le _) (Nat.zero_le _) dX0_common_22 (pI_ok (by obtain rfl : y0 = 0 := (by omega); rw [← hg, Nat.gcd_zero_right]))
    ·
      refine g_iload_n hx 0 dX0_common_8 rfl rfl ?_
      refine g_iload_n hx 1 dX0_common_9 rfl rfl ?_
      refine g_irem hx dX0_common_10 (by omega) (by omega) ?_
      refine g_top (b := ((x0 % y0 : Nat) : Int)) (by omega) ?_
      refine g_istore (lv' := [(4, .int (iI ((x0 % y0 : Nat) : Int))), (2, .int (iI (x0 : Int))), (3, .int (iI (y0 : Int))), (0, .int (iI (a : Int))), (1, .int (iI (b : Int)))]) hx dX0_common_11 (by decide) rfl ?_
      refine g_iload_n hx 2 dX0_common_13 rfl rfl ?_
      refine g_istore_n (lv' := [(2, .int (iI (y0 : Int))), (4, .int (iI ((x0 % y0 : Nat) : Int))), (3, .int (iI (y0 : Int))), (0, .int (iI (a : Int))), (1, .int (iI (b : Int)))]) hx dX0_common_14 rfl (by decide) rfl ?_
      refine g_iload hx 1 dX0_common_15 rfl ?_
      refine g_istore_n (lv' := [(3, .int (iI ((x0 % y0 : Nat) : Int))), (2, .int (iI (y0 : Int))), (4, .int (iI ((x0 % y0 : Nat) : Int))), (0, .int (iI (a : Int))), (1, .int (iI (b : Int)))]) hx dX0_common_17 rfl (by decide) rfl ?_
      refine g_goto hx 4 dX0_common_18 (by decide) ?_
      exact g_lv [1, 0, 3, 4] rfl (ih (x0 % y0) (Nat.mod_lt _ (by omega)) (by have := Nat.mod_lt x0 (y := y0) (by omega); omega) y0 (by omega) ((gcd_st x0 y0).trans hg))
  exact g_lv [1, 0, 2, 3] rfl (lp b hb a ha rfl)
theorem kc_tieOf (l : Launch) (G : gG) (g : gA2) (M : gH) (σ : sT) (N : Nat) (lf : Int) (B : Nat) (hI : Iv σ N B) (hR : RC G g M σ N lf) (a b : Int) (ha : -2147483648 ≤ a ∧ a ≤ 2147483647) (hb : -2147483648 ≤ b ∧ b ≤ 2147483647) : GMet l yX0_tieOf (ws_ yX0_tieOf cX0_tieOf 4 (some .int)) ({ frames := 0, cells := 0, slots := 0, locals := 0 } : Room) G [.ref (g 0 0), .int (iI a), .int (iI b)] M (pI M (tie σ a b)) 0 0 := by
  refine g_start (by decide) (Nat.le_of_ble_eq_true rfl) (fun x hx => ?_)
  have hb0 := hI.1
  obtain ⟨K, hK⟩ : ∃ K : Nat, σ 0 5 = (K : Int) := ⟨(σ 0 5).toNat, by omega⟩
  refine g_iconst hx dX0_tieOf_0 ?_
  refine g_istore_n (lv' := [(3, .int (iI 0)), (0, .ref (g 0 0)), (1, .int (iI a)), (2, .int (iI b))]) hx dX0_tieOf_1 rfl (by decide) rfl ?_
  have lp_1 : ∀ k : Nat, k ≤ K → (∀ j : Nat, j < k → ¬ tp σ a b j) → GW x (gQx x (pI M (tie σ a b)) 0 0) M 0 0 2 [(3, .int (iI (k : Int))), (0, .ref (g 0 0)), (1, .int (iI a)), (2, .int (iI b))] [] := by
    refine down K (fun k hk_k ih_k hy_k => ?_)
    have hs : (k : Int) < σ 0 5 → okT σ N k := fun h => hI.2.2.2 k h
    refine g_iload_n hx 0 dX0_tieOf_2 rfl rfl ?_
    refine g_aload_n hx 1 dX0_tieOf_3 rfl rfl ?_
    refine gq93 (v := .int (iI (σ 0 5))) hx rfl dX0_tieOf_4 hR.o rfl ?_
    refine g_icmp_ge hx 58 (by omega) (by omega) dX0_tieOf_7 (by decide) (fun c_7 => ?_) (fun c_7 => ?_)
    ·
      refine g_iconst hx dX0_tieOf_58 ?_
      exact g_iret hx (Nat.zero_le _) (Nat.zero_le _) dX0_tieOf_59 (pI_ok (by unfold tie; rw [hK, Int.toNat_natCast, show K = k by omega]; exact (fl_no _ hy_k).symm))
    ·
      have hs := hs (by omega); unfold okT at hs
      refine g_aload_n hx 1 dX0_tieOf_10 rfl rfl ?_
      refine gq90 (v := .ref (g 5 0)) hx rfl dX0_tieOf_11 hR.o rfl ?_
      refine g_iload_n hx 0 dX0_tieOf_14 rfl rfl ?_
      refine g_iald hx k (v := σ 16 k) hR.t5 rfl (by omega) (by decide) rfl dX0_tieOf_15 ?_
      refine g_iload_n hx 2 dX0_tieOf_16 rfl rfl ?_
      refine g_icmp_ne hx 30 (by omega) (by omega) dX0_tieOf_17 (by decide) (fun c_17 => ?_) (fun c_17 => ?_)
      ·
        refine g_aload_n hx 1 dX0_tieOf_30 rfl rfl ?_
        refine gq90 (v := .ref (g 5 0)) hx rfl dX0_tieOf_31 hR.o rfl ?_
        refine g_iload_n hx 0 dX0_tieOf_34 rfl rfl ?_
        refine g_iald hx k (v := σ 16 k) hR.t5 rfl (by omega) (by decide) rfl dX0_tieOf_35 ?_
        refine g_iload_n hx 3 dX0_tieOf_36 rfl rfl ?_
        refine g_icmp_ne hx 52 (by omega) (by omega) dX0_tieOf_37 (by decide) (fun c_37 => ?_) (fun c_37 => ?_)
        ·
          refine g_iinc (lv' := [(3, .int (iI ((k + 1 : Nat) : Int))), (0, .ref (g 0 0)), (1, .int (iI a)), (2, .int (iI b))]) (b := ((k + 1 : Nat) : Int)) hx 0 dX0_tieOf_52 rfl (by omega) (by decide) rfl ?_
          refine g_goto hx 2 dX0_tieOf_55 (by decide) ?_
          exact g_lv [0, 1, 2, 3] rfl (ih_k (by omega) (fun j hj => by by_cases e : j = k; (· subst e; intro h; unfold tp at h; omega); (· exact hy_k j (by omega))))
        ·
          refine g_aload_n hx 1 dX0_tieOf_40 rfl rfl ?_
          refine gq91 (v := .ref (g 6 0)) hx rfl dX0_tieOf_41 hR.o rfl ?_
          refine g_iload_n hx 0 dX0_tieOf_44 rfl rfl ?_
          refine g_iald hx k (v := σ 17 k) hR.t6 rfl (by omega) (by decide) rfl dX0_tieOf_45 ?_
          refine g_iload_n hx 2 dX0_tieOf_46 rfl rfl ?_
          refine g_icmp_ne hx 52 (by omega) (by omega) dX0_tieOf_47 (by decide) (fun c_47 => ?_) (fun c_47 => ?_)
          ·
            refine g_iinc (lv' := [(3, .int (iI ((k + 1 : Nat) : Int))), (0, .ref (g 0 0)), (1, .int (iI a)), (2, .int (iI b))]) (b := ((k + 1 : Nat) : Int)) hx 0 dX0_tieOf_52 rfl (by omega) (by decide) rfl ?_
            refine g_goto hx 2 dX0_tieOf_55 (by decide) ?_
            exact g_lv [0, 1, 2, 3] rfl (ih_k (by omega) (fun j hj => by by_cases e : j = k; (· subst e; intro h; unfold tp at h; omega); (· exact hy_k j (by omega))))
          ·
            refine g_iload_n hx 0 dX0_tieOf_50 rfl rfl ?_
            exact g_iret hx (Nat.zero_le _) (Nat.zero_le _) dX0_tieOf_51 (pI_ok (by unfold tie; rw [hK, Int.toNat_natCast]; exact (fl_at (by omega) hy_k (by unfold tp; omega)).symm))
      ·
        refine g_aload_n hx 1 dX0_tieOf_20 rfl rfl ?_
        refine gq91 (v := .ref (g 6 0)) hx rfl dX0_tieOf_21 hR.o rfl ?_
        refine g_iload_n hx 0 dX0_tieOf_24 rfl rfl ?_
        refine g_iald hx k (v := σ 17 k) hR.t6 rfl (by omega) (by decide) rfl dX0_tieOf_25 ?_
        refine g_iload_n hx 3 dX0_tieOf_26 rfl rfl ?_
        refine g_icmp_eq hx 50 (by omega) (by omega) dX0_tieOf_27 (by decide) (fun c_27 => ?_) (fun c_27 => ?_)
        ·
          refine g_iload_n hx 0 dX0_tieOf_50 rfl rfl ?_
          exact g_iret hx (Nat.zero_le _) (Nat.zero_le _) dX0_tieOf_51 (pI_ok (by unfold tie; rw [hK, Int.toNat_natCast]; exact (fl_at (by omega) hy_k (by unfold tp; omega)).symm))
        ·
          refine g_aload_n hx 1 dX0_tieOf_30 rfl rfl ?_
          refine gq90 (v := .ref (g 5 0)) hx rfl dX0_tieOf_31 hR.o rfl ?_
          refine g_iload_n hx 0 dX0_tieOf_34 rfl rfl ?_
          refine g_iald hx k (v := σ 16 k) hR.t5 rfl (by omega) (by decide) rfl dX0_tieOf_35 ?_
          refine g_iload_n hx 3 dX0_tieOf_36 rfl rfl ?_
          refine g_icmp_ne hx 52 (by omega) (by omega) dX0_tieOf_37 (by decide) (fun c_37 => ?_) (fun c_37 => ?_)
          ·
            refine g_iinc (lv' := [(3, .int (iI ((k + 1 : Nat) : Int))), (0, .ref (g 0 0)), (1, .int (iI a)), (2, .int (iI b))]) (b := ((k + 1 : Nat) : Int)) hx 0 dX0_tieOf_52 rfl (by omega) (by decide) rfl ?_
            refine g_goto hx 2 dX0_tieOf_55 (by decide) ?_
            exact g_lv [0, 1, 2, 3] rfl (ih_k (by omega) (fun j hj => by by_cases e : j = k; (· subst e; intro h; unfold tp at h; omega); (· exact hy_k j (by omega))))
          ·
            refine g_aload_n hx 1 dX0_tieOf_40 rfl rfl ?_
            refine gq91 (v := .ref (g 6 0)) hx rfl dX0_tieOf_41 hR.o rfl ?_
            refine g_iload_n hx 0 dX0_tieOf_44 rfl rfl ?_
            refine g_iald hx k (v := σ 17 k) hR.t6 rfl (by omega) (by decide) rfl dX0_tieOf_45 ?_
            refine g_iload_n hx 2 dX0_tieOf_46 rfl rfl ?_
            refine g_icmp_ne hx 52 (by omega) (by omega) dX0_tieOf_47 (by decide) (fun c_47 => ?_) (fun c_47 => ?_)
            ·
              refine g_iinc (lv' := [(3, .int (iI ((k + 1 : Nat) : Int))), (0, .ref (g 0 0)), (1, .int (iI a)), (2, .int (iI b))]) (b := ((k + 1 : Nat) : Int)) hx 0 dX0_tieOf_52 rfl (by omega) (by decide) rfl ?_
              refine g_goto hx 2 dX0_tieOf_55 (by decide) ?_
              exact g_lv [0, 1, 2, 3] rfl (ih_k (by omega) (fun j hj => by by_cases e : j = k; (· subst e; intro h; unfold tp at h; omega); (· exact hy_k j (by omega))))
            ·
              refine g_iload_n hx 0 dX0_tieOf_50 rfl rfl ?_
              exact g_iret hx (Nat.zero_le _) (Nat.zero_le _) dX0_tieOf_51 (pI_ok (by unfold tie; rw [hK, Int.toNat_natCast]; exact (fl_at (by omega) hy_k (by unfold tp; omega)).symm))
  exact g_lv [0, 1, 2, 3] rfl (lp_1 0 (Nat.zero_le _) (fun j hj => by omega))
theorem tie_rg (σ : sT) (a b : Int) : -1 ≤ tie σ a b ∧ (0 ≤ σ 0 5 → tie σ a b < σ 0 5 ∨ tie σ a b = -1) := by
  unfold tie
  rcases fl_cases (tp σ a b) (σ 0 5).toNat with ⟨h, -⟩ | ⟨j, h1, h2, -⟩ <;> omega
theorem tie_lt {σ : sT} {a b : Int} (h : 0 ≤ tie σ a b) : (tie σ a b).toNat < (σ 0 5).toNat ∧ ((tie σ a b).toNat : Int) = tie σ a b ∧ ((tie σ a b).toNat : Int) < σ 0 5 := by
  have h1 := tie_rg σ a b
  unfold tie at h h1 ⊢
  rcases fl_cases (tp σ a b) (σ 0 5).toNat with ⟨h2, -⟩ | ⟨j, h3, h2, -⟩ <;> omega
theorem kc_isTied (l : Launch) (G : gG) (g : gA2) (M : gH) (σ : sT) (N : Nat) (lf : Int) (B : Nat) (hI : Iv σ N B) (hR : RC G g M σ N lf) (i j : Nat) (hi : i < N) (hj : j < N) : GMet l yX0_isTied (ws_ yX0_isTied cX0_isTied 4 (some .boolean)) ({ frames := 1, cells := 0, slots := 0, locals := 23 } : Room) G [.ref (g 0 0), .ref (g 10 i), .ref (g 10 j)] M (pI M (bz (tied σ i j))) 0 0 := by
  refine g_start (by decide) (Nat.le_of_ble_eq_true rfl) (fun x hx => ?_)
  have hb0 := hI.1
  have hb := (hI.2.1 i hi).1
  unfold okA at hb
  have hbj := (hI.2.1 j hj).1
  unfold okA at hbj
  refine g_aload_n hx 0 dX0_isTied_0 rfl rfl ?_
  refine g_aload_n hx 1 dX0_isTied_1 rfl rfl ?_
  refine gq209 (v := .int (iI (i : Int))) hx rfl dX0_isTied_2 (hR.al (i := i) (by omega)) rfl ?_
  refine g_aload_n hx 2 dX0_isTied_5 rfl rfl ?_
  refine gq209 (v := .int (iI (j : Int))) hx rfl dX0_isTied_6 (hR.al (i := j) (by omega)) rfl ?_
  refine g_pcallV (rest := []) (na := 2) hx (kc_tieOf l G g M σ N lf B hI hR (i : Int) (j : Int) (by omega) (by omega)) hR.o rfl (lw_V q359 q361 qs8 q31 q362) rfl rfl (by decide +kernel) rfl ⟨Nat.le_of_ble_eq_true rfl, Nat.le_of_ble_eq_true rfl⟩ rfl (Nat.le_of_ble_eq_true rfl) dX0_isTied_9 ⟨Nat.zero_le _, Nat.zero_le _⟩ ?_
  refine g_istore_n (lv' := [(3, .int (iI (tie σ (i : Int) (j : Int)))), (0, .ref (g 0 0)), (1, .ref (g 10 i)), (2, .ref (g 10 j))]) hx dX0_isTied_12 rfl (by decide) rfl ?_
  have htr := tie_rg σ (i : Int) (j : Int)
  refine g_iload_n hx 0 dX0_isTied_13 rfl rfl ?_
  refine g_if_lt hx 26 (by omega) dX0_isTied_14 (by decide) (fun c_14 => ?_) (fun c_14 => ?_)
  ·
    refine g_aload_n hx 2 dX0_isTied_26 rfl rfl ?_
    refine gq215 (v := .int (iI (σ 3 i))) hx rfl dX0_isTied_27 (hR.al (i := i) (by omega)) rfl ?_
    refine g_aload_n hx 3 dX0_isTied_30 rfl rfl ?_
    refine gq215 (v := .int (iI (σ 3 j))) hx rfl dX0_isTied_31 (hR.al (i := j) (by omega)) rfl ?_
    refine g_icmp_ne hx 58 (by omega) (by omega) dX0_isTied_34 (by decide) (fun c_34 => ?_) (fun c_34 => ?_)
    ·
      refine g_iconst hx dX0_isTied_58 ?_
      exact g_zret hx (by omega) (Nat.zero_le _) (Nat.zero_le _) dX0_isTied_59 (pI_ok (bz_f (fun h => by unfold tied at h; omega)).symm)
    ·
      refine g_aload_n hx 2 dX0_isTied_37 rfl rfl ?_
      refine gq211 (v := .int (iI (σ 1 i))) hx rfl dX0_isTied_38 (hR.al (i := i) (by omega)) rfl ?_
      refine g_aload_n hx 3 dX0_isTied_41 rfl rfl ?_
      refine gq211 (v := .int (iI (σ 1 j))) hx rfl dX0_isTied_42 (hR.al (i := j) (by omega)) rfl ?_
      refine g_isub hx dX0_isTied_45 ?_
      refine g_mabs hx (by omega) q383 ⟨Nat.le_of_ble_eq_true rfl, Nat.le_of_ble_eq_true rfl⟩ (Nat.le_of_ble_eq_true rfl) ⟨Nat.zero_le _, Nat.zero_le _⟩ dX0_isTied_46 ?_
      refine g_bipush hx dX0_isTied_49 (by decide) ?_
      refine g_icmp_gt hx 58 (by omega) (by omega) dX0_isTied_51 (by decide) (fun c_51 => ?_) (fun c_51 => ?_)
      ·
        refine g_iconst hx dX0_isTied_58 ?_
        exact g_zret hx (by omega) (Nat.zero_le _) (Nat.zero_le _) dX0_isTied_59 (pI_ok (bz_f (fun h => by unfold tied at h; omega)).symm)
      ·
        refine g_iconst hx dX0_isTied_54 ?_
        refine g_goto hx 59 dX0_isTied_55 (by decide) ?_
        exact g_zret hx (by omega) (Nat.zero_le _) (Nat.zero_le _) dX0_isTied_59 (pI_ok (bz_t (Or.inr ⟨c_14, c_34, by omega⟩)).symm)
  ·
    have htl := tie_lt (show 0 ≤ tie σ (i : Int) (j : Int) by omega)
    have hv18 := (hI.2.2.2 _ htl.2.2).2.2.2.2
    refine g_aload_n hx 1 dX0_isTied_17 rfl rfl ?_
    refine gq92 (v := .ref (g 7 0)) hx rfl dX0_isTied_18 hR.o rfl ?_
    refine g_iload_n hx 0 dX0_isTied_21 rfl rfl ?_
    refine g_zald hx ((tie σ (i : Int) (j : Int)).toNat) (v := σ 18 ((tie σ (i : Int) (j : Int)).toNat)) hR.t7 htl.2.1.symm (by omega) (by decide) rfl dX0_isTied_22 ?_
    refine g_goto hx 59 dX0_isTied_23 (by decide) ?_
    exact g_zret hx (by omega) (Nat.zero_le _) (Nat.zero_le _) dX0_isTied_59 (pI_ok (by rcases hv18 with h | h; (· rw [h]; exact (bz_f (fun q => by unfold tied at q; omega)).symm); (· rw [h]; exact (bz_t (Or.inl ⟨by omega, h⟩)).symm)))
noncomputable def oUp (σ : sT) (N i : Nat) (w : Int) : Int := if w < 2 then (if nod σ N (dep σ N i) (σ 4 i) 1 = 0 then 1 else nod σ N (dep σ N i) (σ 4 i) 0) else if w < 4 then nod σ N (dep σ N i) (σ 4 i) 0 else nod σ N (dep σ N i) (σ 4 i) 0 + nod σ N (dep σ N i) (σ 4 i) 2
noncomputable def oLo (σ : sT) (N i : Nat) (w : Int) : Int := if w < 2 then (if nod σ N (dep σ N i) (σ 4 i) 1 = 0 then 2 else nod σ N (dep σ N i) (σ 4 i) 1) else nod σ N (dep σ N i) (σ 4 i) 1 + nod σ N (dep σ N i) (σ 4 i) 2
/-- the odds of an alarm: what over what, reduced -/
noncomputable def oddsS (σ : sT) (N i : Nat) (w : Int) : Int := if w % 2 = 0 then oUp σ N i w / (Nat.gcd (oUp σ N i w).toNat (oLo σ N i w).toNat : Int) else oLo σ N i w / (Nat.gcd (oUp σ N i w).toNat (oLo σ N i w).toNat : Int)
theorem nod_self {σ : sT} {N i d : Nat} (hi : i < N) : 1 ≤ nod σ N d (σ 4 i) 1 + nod σ N d (σ 4 i) 2 := by
  have h1 := nod_rg σ N d (σ 4 i) 1
  have h2 := nod_rg σ N d (σ 4 i) 2
  by_cases h : σ 10 i = 0
  · have : 1 ≤ nod σ N d (σ 4 i) 2 := cn_pos hi ⟨rfl, Or.inr (Or.inr ⟨rfl, h⟩)⟩
    omega
  · have : 1 ≤ nod σ N d (σ 4 i) 1 := cn_pos hi ⟨rfl, Or.inr (Or.inl ⟨rfl, h⟩)⟩
    omega
theorem oLo_rg {σ : sT} {N i : Nat} (hi : i < N) (hN : N ≤ 64) (w : Int) : 1 ≤ oLo σ N i w ∧ oLo σ N i w ≤ 128 := by
  have h1 := nod_rg σ N (dep σ N i) (σ 4 i) 1
  have h2 := nod_rg σ N (dep σ N i) (σ 4 i) 2
  have h3 := nod_self (σ := σ) (d := dep σ N i) hi
  unfold oLo
  split
  · split <;> omega
  · omega
theorem oUp_rg {σ : sT} {N i : Nat} (hN : N ≤ 64) (w : Int) : 0 ≤ oUp σ N i w ∧ oUp σ N i w ≤ 128 := by
  have h1 := nod_rg σ N (dep σ N i) (σ 4 i) 0
  have h2 := nod_rg σ N (dep σ N i) (σ 4 i) 2
  unfold oUp
  split
  · split <;> omega
  · split <;> omega
theorem oG_rg {σ : sT} {N i : Nat} (hi : i < N) (hN : N ≤ 64) (w : Int) : 1 ≤ Nat.gcd (oUp σ N i w).toNat (oLo σ N i w).toNat ∧ Nat.gcd (oUp σ N i w).toNat (oLo σ N i w).toNat ≤ 128 := by
  have h1 := oLo_rg (σ := σ) hi hN w
  have h2 : 0 < (oLo σ N i w).toNat := by omega
  refine ⟨Nat.gcd_pos_of_pos_right _ h2, ?_⟩
  have := Nat.le_of_dvd h2 (Nat.gcd_dvd_right (oUp σ N i w).toNat (oLo σ N i w).toNat)
  omega
theorem kc_oddsY (l : Launch) (G : gG) (g : gA2) (M : gH) (σ : sT) (N : Nat) (lf : Int) (B : Nat) (hI : Iv σ N B) (hR : RC G g M σ N lf) (i : Nat) (hi : i < N) (c : Int) (hc : -2147483648 ≤ c ∧ c ≤ 2147483647) : GMet l yX0_odds (ws_ yX0_odds cX0_odds 11 (some .int)) ({ frames := 5, cells := 0, slots := 0, locals := 112 } : Room) G [.ref (g 0 0), .int (iI (i : Int)), .int (iI c)] M (pI M (if 0 ≤ c ∧ c ≤ 5 then oddsS σ N i c else -1)) 0 0 := by
  refine g_start (by decide) (Nat.le_of_ble_eq_true rfl) (fun x hx => ?_)
  have hb0 := hI.1
  have hb := (hI.2.1 i hi).1
  unfold okA at hb
  have hd := dep_le σ N i
  have hn0 := nod_rg σ N (dep σ N i) (σ 4 i) 0
  have hn1 := nod_rg σ N (dep σ N i) (σ 4 i) 1
  have hn2 := nod_rg σ N (dep σ N i) (σ 4 i) 2
  refine g_aload_n hx 0 dX0_odds_0 rfl rfl ?_
  refine g_iload_n hx 1 dX0_odds_1 rfl rfl ?_
  refine g_pcallV (rest := []) (na := 1) hx (k_atY l G g M σ N lf B hI hR i (by omega)) hR.o rfl (lw_V q313 q315 qs5 q31 q316) rfl rfl (by decide +kernel) rfl ⟨Nat.le_of_ble_eq_true rfl, Nat.le_of_ble_eq_true rfl⟩ rfl (Nat.le_of_ble_eq_true rfl) dX0_odds_2 ⟨Nat.zero_le _, Nat.zero_le _⟩ ?_
  refine g_astore_n (lv' := [(3, .ref (g 10 i)), (0, .ref (g 0 0)), (1, .int (iI (i : Int))), (2, .int (iI c))]) hx dX0_odds_5 rfl (by decide) rfl ?_
  refine g_aload_n hx 0 dX0_odds_6 rfl rfl ?_
  refine g_ifnull hx dX0_odds_7 ?_
  refine g_iload_n hx 3 dX0_odds_10 rfl rfl ?_
  refine g_iconst hx dX0_odds_11 ?_
  refine g_iconst hx dX0_odds_12 ?_
  refine g_pcallS (rest := []) (na := 3) hx (k_isIn l G M c 0 5 (by omega) (by omega) (by omega)) (lw_S q145 q146 q31 q147) rfl rfl (by decide +kernel) rfl ⟨Nat.le_of_ble_eq_true rfl, Nat.le_of_ble_eq_true rfl⟩ rfl (Nat.le_of_ble_eq_true rfl) dX0_odds_13 ⟨Nat.zero_le _, Nat.zero_le _⟩ ?_
  refine g_if_neP hx 21 dX0_odds_16 (by decide) (fun c_16 => ?_) (fun c_16 => ?_)
  ·
    refine g_aload_n hx 1 dX0_odds_21 rfl rfl ?_
    refine g_aload_n hx 0 dX0_odds_22 rfl rfl ?_
    refine g_pcallV (rest := []) (na := 1) hx (kc_depthOf l G g M σ N lf B hI hR i (by omega)) hR.o rfl (lw_V q348 q350 qs7 q31 q351) rfl rfl (by decide +kernel) rfl ⟨Nat.le_of_ble_eq_true rfl, Nat.le_of_ble_eq_true rfl⟩ rfl (Nat.le_of_ble_eq_true rfl) dX0_odds_23 ⟨Nat.zero_le _, Nat.zero_le _⟩ ?_
    refine g_istore (lv' := [(4, .int (iI (dep σ N i : Int))), (3, .ref (g 10 i)), (0, .ref (g 0 0)), (1, .int (iI (i : Int))), (2, .int (iI c))]) hx dX0_odds_26 (by decide) rfl ?_
    refine g_aload_n hx 2 dX0_odds_28 rfl rfl ?_
    refine g_iload hx 0 dX0_odds_29 rfl ?_
    refine g_aload_n hx 1 dX0_odds_31 rfl rfl ?_
    refine gq217 (v := .int (iI (σ 4 i))) hx rfl dX0_odds_32 (hR.al (i := i) (by omega)) rfl ?_
    refine g_iconst hx dX0_odds_35 ?_
    refine g_pcallV (rest := []) (na := 3) hx (k_countAt l G g M σ N lf B hI hR (dep σ N i) (by omega) (σ 4 i) (by omega) 0 (by omega)) hR.o rfl (lw_V q336 q338 qs6 q31 q339) rfl rfl (by decide +kernel) rfl ⟨Nat.le_of_ble_eq_true rfl, Nat.le_of_ble_eq_true rfl⟩ rfl (Nat.le_of_ble_eq_true rfl) dX0_odds_36 ⟨Nat.zero_le _, Nat.zero_le _⟩ ?_
    refine g_istore (lv' := [(5, .int (iI (nod σ N (dep σ N i) (σ 4 i) 0))), (4, .int (iI (dep σ N i : Int))), (3, .ref (g 10 i)), (0, .ref (g 0 0)), (1, .int (iI (i : Int))), (2, .int (iI c))]) hx dX0_odds_39 (by decide) rfl ?_
    refine g_aload_n hx 3 dX0_odds_41 rfl rfl ?_
    refine g_iload hx 1 dX0_odds_42 rfl ?_
    refine g_aload_n hx 2 dX0_odds_44 rfl rfl ?_
    refine gq217 (v := .int (iI (σ 4 i))) hx rfl dX0_odds_45 (hR.al (i := i) (by omega)) rfl ?_
    refine g_iconst hx dX0_odds_48 ?_
    refine g_pcallV (rest := []) (na := 3) hx (k_countAt l G g M σ N lf B hI hR (dep σ N i) (by omega) (σ 4 i) (by omega) 1 (by omega)) hR.o rfl (lw_V q336 q338 qs6 q31 q339) rfl rfl (by decide +kernel) rfl ⟨Nat.le_of_ble_eq_true rfl, Nat.le_of_ble_eq_true rfl⟩ rfl (Nat.le_of_ble_eq_true rfl) dX0_odds_49 ⟨Nat.zero_le _, Nat.zero_le _⟩ ?_
    refine g_istore (lv' := [(6, .int (iI (nod σ N (dep σ N i) (σ 4 i) 1))), (5, .int (iI (nod σ N (dep σ N i) (σ 4 i) 0))), (4, .int (iI (dep σ N i : Int))), (3, .ref (g 10 i)), (0, .ref (g 0 0)), (1, .int (iI (i : Int))), (2, .int (iI c))]) hx dX0_odds_52 (by decide) rfl ?_
    refine g_aload_n hx 4 dX0_odds_54 rfl rfl ?_
    refine g_iload hx 2 dX0_odds_55 rfl ?_
    refine g_aload_n hx 3 dX0_odds_57 rfl rfl ?_
    refine gq217 (v := .int (iI (σ 4 i))) hx rfl dX0_odds_58 (hR.al (i := i) (by omega)) rfl ?_
    refine g_iconst hx dX0_odds_61 ?_
    refine g_pcallV (rest := []) (na := 3) hx (k_countAt l G g M σ N lf B hI hR (dep σ N i) (by omega) (σ 4 i) (by omega) 2 (by omega)) hR.o rfl (lw_V q336 q338 qs6 q31 q339) rfl rfl (by decide +kernel) rfl ⟨Nat.le_of_ble_eq_true rfl, Nat.le_of_ble_eq_true rfl⟩ rfl (Nat.le_of_ble_eq_true rfl) dX0_odds_62 ⟨Nat.zero_le _, Nat.zero_le _⟩ ?_
    refine g_istore (lv' := [(7, .int (iI (nod σ N (dep σ N i) (σ 4 i) 2))), (6, .int (iI (nod σ N (dep σ N i) (σ 4 i) 1))), (5, .int (iI (nod σ N (dep σ N i) (σ 4 i) 0))), (4, .int (iI (dep σ N i : Int))), (3, .ref (g 10 i)), (0, .ref (g 0 0)), (1, .int (iI (i : Int))), (2, .int (iI c))]) hx dX0_odds_65 (by decide) rfl ?_
    refine g_iload_n hx 7 dX0_odds_67 rfl rfl ?_
    refine g_iconst hx dX0_odds_68 ?_
    refine g_icmp_ge hx 86 (by omega) (by omega) dX0_odds_69 (by decide) (fun c_69 => ?_) (fun c_69 => ?_)
    ·
      refine g_iload_n hx 7 dX0_odds_86 rfl rfl ?_
      refine g_iconst hx dX0_odds_87 ?_
      refine g_icmp_ge hx 96 (by omega) (by omega) dX0_odds_88 (by decide) (fun c_88 => ?_) (fun c_88 => ?_)
      ·
        refine g_iload hx 2 dX0_odds_96 rfl ?_
        refine g_iload hx 0 dX0_odds_98 rfl ?_
        refine g_iadd hx dX0_odds_100 ?_
        refine g_top (b := ((oUp σ N i c).toNat : Int)) (by have hz := oUp_rg (σ := σ) (N := N) (i := i) (by omega) c; rw [show ((oUp σ N i c).toNat : Int) = oUp σ N i c by omega]; unfold oUp; repeat (first | rw [if_pos (by omega)] | rw [if_neg (by omega)])) ?_
        refine g_istore (lv' := [(8, .int (iI ((oUp σ N i c).toNat : Int))), (7, .int (iI (nod σ N (dep σ N i) (σ 4 i) 2))), (6, .int (iI (nod σ N (dep σ N i) (σ 4 i) 1))), (5, .int (iI (nod σ N (dep σ N i) (σ 4 i) 0))), (4, .int (iI (dep σ N i : Int))), (3, .ref (g 10 i)), (0, .ref (g 0 0)), (1, .int (iI (i : Int))), (2, .int (iI c))]) hx dX0_odds_101 (by decide) rfl ?_
        refine g_iload_n hx 8 dX0_odds_103 rfl rfl ?_
        refine g_iconst hx dX0_odds_104 ?_
        refine g_icmp_ge hx 122 (by omega) (by omega) dX0_odds_105 (by decide) (fun c_105 => ?_) (fun c_105 => ?_)
        ·
          refine g_iload hx 2 dX0_odds_122 rfl ?_
          refine g_iload hx 1 dX0_odds_124 rfl ?_
          refine g_iadd hx dX0_odds_126 ?_
          refine g_top (b := ((oLo σ N i c).toNat : Int)) (by have hz := oLo_rg (σ := σ) hi (by omega) c; rw [show ((oLo σ N i c).toNat : Int) = oLo σ N i c by omega]; unfold oLo; repeat (first | rw [if_pos (by omega)] | rw [if_neg (by omega)])) ?_
          refine g_istore (lv' := [(9, .int (iI ((oLo σ N i c).toNat : Int))), (8, .int (iI ((oUp σ N i c).toNat : Int))), (7, .int (iI (nod σ N (dep σ N i) (σ 4 i) 2))), (6, .int (iI (nod σ N (dep σ N i) (σ 4 i) 1))), (5, .int (iI (nod σ N (dep σ N i) (σ 4 i) 0))), (4, .int (iI (dep σ N i : Int))), (3, .ref (g 10 i)), (0, .ref (g 0 0)), (1, .int (iI (i : Int))), (2, .int (iI c))]) hx dX0_odds_127 (by decide) rfl ?_
          refine g_iload hx 1 dX0_odds_129 rfl ?_
          refine g_iload hx 0 dX0_odds_131 rfl ?_
          refine g_pcallS (rest := []) (na := 2) hx (kc_common l G M (oUp σ N i c).toNat (oLo σ N i c).toNat (by have := oUp_rg (σ := σ) (N := N) (i := i) (by omega) c; omega) (by have := oLo_rg (σ := σ) hi (by omega) c; omega)) (lw_S q352 q353 q31 q354) rfl rfl (by decide +kernel) rfl ⟨Nat.le_of_ble_eq_true rfl, Nat.le_of_ble_eq_true rfl⟩ rfl (Nat.le_of_ble_eq_true rfl) dX0_odds_133 ⟨Nat.zero_le _, Nat.zero_le _⟩ ?_
          refine g_istore (lv' := [(10, .int (iI (Nat.gcd (oUp σ N i c).toNat (oLo σ N i c).toNat : Int))), (9, .int (iI ((oLo σ N i c).toNat : Int))), (8, .int (iI ((oUp σ N i c).toNat : Int))), (7, .int (iI (nod σ N (dep σ N i) (σ 4 i) 2))), (6, .int (iI (nod σ N (dep σ N i) (σ 4 i) 1))), (5, .int (iI (nod σ N (dep σ N i) (σ 4 i) 0))), (4, .int (iI (dep σ N i : Int))), (3, .ref (g 10 i)), (0, .ref (g 0 0)), (1, .int (iI (i : Int))), (2, .int (iI c))]) hx dX0_odds_136 (by decide) rfl ?_
          have hg := oG_rg (σ := σ) hi (by omega) c; have hu := oUp_rg (σ := σ) (N := N) (i := i) (by omega) c; have hl := oLo_rg (σ := σ) hi (by omega) c
          refine g_iload_n hx 10 dX0_odds_138 rfl rfl ?_
          refine g_iconst hx dX0_odds_139 ?_
          refine g_irem hx dX0_odds_140 (by omega) (by omega) ?_
          refine g_if_ne hx 152 (by omega) dX0_odds_141 (by decide) (fun c_141 => ?_) (fun c_141 => ?_)
          ·
            refine g_iload hx 1 dX0_odds_152 rfl ?_
            refine g_iload hx 0 dX0_odds_154 rfl ?_
            refine g_idiv hx dX0_odds_156 (by omega) (by omega) ?_
            exact g_iret hx (Nat.zero_le _) (Nat.zero_le _) dX0_odds_157 (pI_ok (by rw [if_pos (by omega)]; unfold oddsS; rw [if_neg c_141, show ((oLo σ N i c).toNat : Int) = oLo σ N i c by omega]))
          ·
            refine g_iload hx 2 dX0_odds_144 rfl ?_
            refine g_iload hx 0 dX0_odds_146 rfl ?_
            refine g_idiv hx dX0_odds_148 (by omega) (by omega) ?_
            refine g_goto hx 157 dX0_odds_149 (by decide) ?_
            exact g_iret hx (Nat.zero_le _) (Nat.zero_le _) dX0_odds_157 (pI_ok (by rw [if_pos (by omega)]; unfold oddsS; rw [if_pos c_141, show ((oUp σ N i c).toNat : Int) = oUp σ N i c by omega]))
        · exact absurd c_105 (by first | omega | assumption)
      ·
        refine g_iload hx 2 dX0_odds_91 rfl ?_
        refine g_goto hx 101 dX0_odds_93 (by decide) ?_
        refine g_top (b := ((oUp σ N i c).toNat : Int)) (by have hz := oUp_rg (σ := σ) (N := N) (i := i) (by omega) c; rw [show ((oUp σ N i c).toNat : Int) = oUp σ N i c by omega]; unfold oUp; repeat (first | rw [if_pos (by omega)] | rw [if_neg (by omega)])) ?_
        refine g_istore (lv' := [(8, .int (iI ((oUp σ N i c).toNat : Int))), (7, .int (iI (nod σ N (dep σ N i) (σ 4 i) 2))), (6, .int (iI (nod σ N (dep σ N i) (σ 4 i) 1))), (5, .int (iI (nod σ N (dep σ N i) (σ 4 i) 0))), (4, .int (iI (dep σ N i : Int))), (3, .ref (g 10 i)), (0, .ref (g 0 0)), (1, .int (iI (i : Int))), (2, .int (iI c))]) hx dX0_odds_101 (by decide) rfl ?_
        refine g_iload_n hx 8 dX0_odds_103 rfl rfl ?_
        refine g_iconst hx dX0_odds_104 ?_
        refine g_icmp_ge hx 122 (by omega) (by omega) dX0_odds_105 (by decide) (fun c_105 => ?_) (fun c_105 => ?_)
        ·
          refine g_iload hx 2 dX0_odds_122 rfl ?_
          refine g_iload hx 1 dX0_odds_124 rfl ?_
          refine g_iadd hx dX0_odds_126 ?_
          refine g_top (b := ((oLo σ N i c).toNat : Int)) (by have hz := oLo_rg (σ := σ) hi (by omega) c; rw [show ((oLo σ N i c).toNat : Int) = oLo σ N i c by omega]; unfold oLo; repeat (first | rw [if_pos (by omega)] | rw [if_neg (by omega)])) ?_
          refine g_istore (lv' := [(9, .int (iI ((oLo σ N i c).toNat : Int))), (8, .int (iI ((oUp σ N i c).toNat : Int))), (7, .int (iI (nod σ N (dep σ N i) (σ 4 i) 2))), (6, .int (iI (nod σ N (dep σ N i) (σ 4 i) 1))), (5, .int (iI (nod σ N (dep σ N i) (σ 4 i) 0))), (4, .int (iI (dep σ N i : Int))), (3, .ref (g 10 i)), (0, .ref (g 0 0)), (1, .int (iI (i : Int))), (2, .int (iI c))]) hx dX0_odds_127 (by decide) rfl ?_
          refine g_iload hx 1 dX0_odds_129 rfl ?_
          refine g_iload hx 0 dX0_odds_131 rfl ?_
          refine g_pcallS (rest := []) (na := 2) hx (kc_common l G M (oUp σ N i c).toNat (oLo σ N i c).toNat (by have := oUp_rg (σ := σ) (N := N) (i := i) (by omega) c; omega) (by have := oLo_rg (σ := σ) hi (by omega) c; omega)) (lw_S q352 q353 q31 q354) rfl rfl (by decide +kernel) rfl ⟨Nat.le_of_ble_eq_true rfl, Nat.le_of_ble_eq_true rfl⟩ rfl (Nat.le_of_ble_eq_true rfl) dX0_odds_133 ⟨Nat.zero_le _, Nat.zero_le _⟩ ?_
          refine g_istore (lv' := [(10, .int (iI (Nat.gcd (oUp σ N i c).toNat (oLo σ N i c).toNat : Int))), (9, .int (iI ((oLo σ N i c).toNat : Int))), (8, .int (iI ((oUp σ N i c).toNat : Int))), (7, .int (iI (nod σ N (dep σ N i) (σ 4 i) 2))), (6, .int (iI (nod σ N (dep σ N i) (σ 4 i) 1))), (5, .int (iI (nod σ N (dep σ N i) (σ 4 i) 0))), (4, .int (iI (dep σ N i : Int))), (3, .ref (g 10 i)), (0, .ref (g 0 0)), (1, .int (iI (i : Int))), (2, .int (iI c))]) hx dX0_odds_136 (by decide) rfl ?_
          have hg := oG_rg (σ := σ) hi (by omega) c; have hu := oUp_rg (σ := σ) (N := N) (i := i) (by omega) c; have hl := oLo_rg (σ := σ) hi (by omega) c
          refine g_iload_n hx 10 dX0_odds_138 rfl rfl ?_
          refine g_iconst hx dX0_odds_139 ?_
          refine g_irem hx dX0_odds_140 (by omega) (by omega) ?_
          refine g_if_ne hx 152 (by omega) dX0_odds_141 (by decide) (fun c_141 => ?_) (fun c_141 => ?_)
          ·
            refine g_iload hx 1 dX0_odds_152 rfl ?_
            refine g_iload hx 0 dX0_odds_154 rfl ?_
            refine g_idiv hx dX0_odds_156 (by omega) (by omega) ?_
            exact g_iret hx (Nat.zero_le _) (Nat.zero_le _) dX0_odds_157 (pI_ok (by rw [if_pos (by omega)]; unfold oddsS; rw [if_neg c_141, show ((oLo σ N i c).toNat : Int) = oLo σ N i c by omega]))
          ·
            refine g_iload hx 2 dX0_odds_144 rfl ?_
            refine g_iload hx 0 dX0_odds_146 rfl ?_
            refine g_idiv hx dX0_odds_148 (by omega) (by omega) ?_
            refine g_goto hx 157 dX0_odds_149 (by decide) ?_
            exact g_iret hx (Nat.zero_le _) (Nat.zero_le _) dX0_odds_157 (pI_ok (by rw [if_pos (by omega)]; unfold oddsS; rw [if_pos c_141, show ((oUp σ N i c).toNat : Int) = oUp σ N i c by omega]))
        · exact absurd c_105 (by first | omega | assumption)
    ·
      refine g_iload hx 1 dX0_odds_72 rfl ?_
      refine g_if_ne hx 81 (by omega) dX0_odds_74 (by decide) (fun c_74 => ?_) (fun c_74 => ?_)
      ·
        refine g_iload hx 2 dX0_odds_81 rfl ?_
        refine g_goto hx 101 dX0_odds_83 (by decide) ?_
        refine g_top (b := ((oUp σ N i c).toNat : Int)) (by have hz := oUp_rg (σ := σ) (N := N) (i := i) (by omega) c; rw [show ((oUp σ N i c).toNat : Int) = oUp σ N i c by omega]; unfold oUp; repeat (first | rw [if_pos (by omega)] | rw [if_neg (by omega)])) ?_
        refine g_istore (lv' := [(8, .int (iI ((oUp σ N i c).toNat : Int))), (7, .int (iI (nod σ N (dep σ N i) (σ 4 i) 2))), (6, .int (iI (nod σ N (dep σ N i) (σ 4 i) 1))), (5, .int (iI (nod σ N (dep σ N i) (σ 4 i) 0))), (4, .int (iI (dep σ N i : Int))), (3, .ref (g 10 i)), (0, .ref (g 0 0)), (1, .int (iI (i : Int))), (2, .int (iI c))]) hx dX0_odds_101 (by decide) rfl ?_
        refine g_iload_n hx 8 dX0_odds_103 rfl rfl ?_
        refine g_iconst hx dX0_odds_104 ?_
        refine g_icmp_ge hx 122 (by omega) (by omega) dX0_odds_105 (by decide) (fun c_105 => ?_) (fun c_105 => ?_)
        · exact absurd c_105 (by first | omega | assumption)
        ·
          refine g_iload hx 2 dX0_odds_108 rfl ?_
          refine g_if_ne hx 117 (by omega) dX0_odds_110 (by decide) (fun c_110 => ?_) (fun c_110 => ?_)
          ·
            refine g_iload hx 2 dX0_odds_117 rfl ?_
            refine g_goto hx 127 dX0_odds_119 (by decide) ?_
            refine g_top (b := ((oLo σ N i c).toNat : Int)) (by have hz := oLo_rg (σ := σ) hi (by omega) c; rw [show ((oLo σ N i c).toNat : Int) = oLo σ N i c by omega]; unfold oLo; repeat (first | rw [if_pos (by omega)] | rw [if_neg (by omega)])) ?_
            refine g_istore (lv' := [(9, .int (iI ((oLo σ N i c).toNat : Int))), (8, .int (iI ((oUp σ N i c).toNat : Int))), (7, .int (iI (nod σ N (dep σ N i) (σ 4 i) 2))), (6, .int (iI (nod σ N (dep σ N i) (σ 4 i) 1))), (5, .int (iI (nod σ N (dep σ N i) (σ 4 i) 0))), (4, .int (iI (dep σ N i : Int))), (3, .ref (g 10 i)), (0, .ref (g 0 0)), (1, .int (iI (i : Int))), (2, .int (iI c))]) hx dX0_odds_127 (by decide) rfl ?_
            refine g_iload hx 1 dX0_odds_129 rfl ?_
            refine g_iload hx 0 dX0_odds_131 rfl ?_
            refine g_pcallS (rest := []) (na := 2) hx (kc_common l G M (oUp σ N i c).toNat (oLo σ N i c).toNat (by have := oUp_rg (σ := σ) (N := N) (i := i) (by omega) c; omega) (by have := oLo_rg (σ := σ) hi (by omega) c; omega)) (lw_S q352 q353 q31 q354) rfl rfl (by decide +kernel) rfl ⟨Nat.le_of_ble_eq_true rfl, Nat.le_of_ble_eq_true rfl⟩ rfl (Nat.le_of_ble_eq_true rfl) dX0_odds_133 ⟨Nat.zero_le _, Nat.zero_le _⟩ ?_
            refine g_istore (lv' := [(10, .int (iI (Nat.gcd (oUp σ N i c).toNat (oLo σ N i c).toNat : Int))), (9, .int (iI ((oLo σ N i c).toNat : Int))), (8, .int (iI ((oUp σ N i c).toNat : Int))), (7, .int (iI (nod σ N (dep σ N i) (σ 4 i) 2))), (6, .int (iI (nod σ N (dep σ N i) (σ 4 i) 1))), (5, .int (iI (nod σ N (dep σ N i) (σ 4 i) 0))), (4, .int (iI (dep σ N i : Int))), (3, .ref (g 10 i)), (0, .ref (g 0 0)), (1, .int (iI (i : Int))), (2, .int (iI c))]) hx dX0_odds_136 (by decide) rfl ?_
            have hg := oG_rg (σ := σ) hi (by omega) c; have hu := oUp_rg (σ := σ) (N := N) (i := i) (by omega) c; have hl := oLo_rg (σ := σ) hi (by omega) c
            refine g_iload_n hx 10 dX0_odds_138 rfl rfl ?_
            refine g_iconst hx dX0_odds_139 ?_
            refine g_irem hx dX0_odds_140 (by omega) (by omega) ?_
            refine g_if_ne hx 152 (by omega) dX0_odds_141 (by decide) (fun c_141 => ?_) (fun c_141 => ?_)
            ·
              refine g_iload hx 1 dX0_odds_152 rfl ?_
              refine g_iload hx 0 dX0_odds_154 rfl ?_
              refine g_idiv hx dX0_odds_156 (by omega) (by omega) ?_
              exact g_iret hx (Nat.zero_le _) (Nat.zero_le _) dX0_odds_157 (pI_ok (by rw [if_pos (by omega)]; unfold oddsS; rw [if_neg c_141, show ((oLo σ N i c).toNat : Int) = oLo σ N i c by omega]))
            ·
              refine g_iload hx 2 dX0_odds_144 rfl ?_
              refine g_iload hx 0 dX0_odds_146 rfl ?_
              refine g_idiv hx dX0_odds_148 (by omega) (by omega) ?_
              refine g_goto hx 157 dX0_odds_149 (by decide) ?_
              exact g_iret hx (Nat.zero_le _) (Nat.zero_le _) dX0_odds_157 (pI_ok (by rw [if_pos (by omega)]; unfold oddsS; rw [if_pos c_141, show ((oUp σ N i c).toNat : Int) = oUp σ N i c by omega]))
          · exact absurd c_110 (by first | omega | assumption)
      ·
        refine g_iconst hx dX0_odds_77 ?_
        refine g_goto hx 101 dX0_odds_78 (by decide) ?_
        refine g_top (b := ((oUp σ N i c).toNat : Int)) (by have hz := oUp_rg (σ := σ) (N := N) (i := i) (by omega) c; rw [show ((oUp σ N i c).toNat : Int) = oUp σ N i c by omega]; unfold oUp; repeat (first | rw [if_pos (by omega)] | rw [if_neg (by omega)])) ?_
        refine g_istore (lv' := [(8, .int (iI ((oUp σ N i c).toNat : Int))), (7, .int (iI (nod σ N (dep σ N i) (σ 4 i) 2))), (6, .int (iI (nod σ N (dep σ N i) (σ 4 i) 1))), (5, .int (iI (nod σ N (dep σ N i) (σ 4 i) 0))), (4, .int (iI (dep σ N i : Int))), (3, .ref (g 10 i)), (0, .ref (g 0 0)), (1, .int (iI (i : Int))), (2, .int (iI c))]) hx dX0_odds_101 (by decide) rfl ?_
        refine g_iload_n hx 8 dX0_odds_103 rfl rfl ?_
        refine g_iconst hx dX0_odds_104 ?_
        refine g_icmp_ge hx 122 (by omega) (by omega) dX0_odds_105 (by decide) (fun c_105 => ?_) (fun c_105 => ?_)
        · exact absurd c_105 (by first | omega | assumption)
        ·
          refine g_iload hx 2 dX0_odds_108 rfl ?_
          refine g_if_ne hx 117 (by omega) dX0_odds_110 (by decide) (fun c_110 => ?_) (fun c_110 => ?_)
          · exact absurd c_110 (by first | omega | assumption)
          ·
            refine g_iconst hx dX0_odds_113 ?_
            refine g_goto hx 127 dX0_odds_114 (by decide) ?_
            refine g_top (b := ((oLo σ N i c).toNat : Int)) (by have hz := oLo_rg (σ := σ) hi (by omega) c; rw [show ((oLo σ N i c).toNat : Int) = oLo σ N i c by omega]; unfold oLo; repeat (first | rw [if_pos (by omega)] | rw [if_neg (by omega)])) ?_
            refine g_istore (lv' := [(9, .int (iI ((oLo σ N i c).toNat : Int))), (8, .int (iI ((oUp σ N i c).toNat : Int))), (7, .int (iI (nod σ N (dep σ N i) (σ 4 i) 2))), (6, .int (iI (nod σ N (dep σ N i) (σ 4 i) 1))), (5, .int (iI (nod σ N (dep σ N i) (σ 4 i) 0))), (4, .int (iI (dep σ N i : Int))), (3, .ref (g 10 i)), (0, .ref (g 0 0)), (1, .int (iI (i : Int))), (2, .int (iI c))]) hx dX0_odds_127 (by decide) rfl ?_
            refine g_iload hx 1 dX0_odds_129 rfl ?_
            refine g_iload hx 0 dX0_odds_131 rfl ?_
            refine g_pcallS (rest := []) (na := 2) hx (kc_common l G M (oUp σ N i c).toNat (oLo σ N i c).toNat (by have := oUp_rg (σ := σ) (N := N) (i := i) (by omega) c; omega) (by have := oLo_rg (σ := σ) hi (by omega) c; omega)) (lw_S q352 q353 q31 q354) rfl rfl (by decide +kernel) rfl ⟨Nat.le_of_ble_eq_true rfl, Nat.le_of_ble_eq_true rfl⟩ rfl (Nat.le_of_ble_eq_true rfl) dX0_odds_133 ⟨Nat.zero_le _, Nat.zero_le _⟩ ?_
            refine g_istore (lv' := [(10, .int (iI (Nat.gcd (oUp σ N i c).toNat (oLo σ N i c).toNat : Int))), (9, .int (iI ((oLo σ N i c).toNat : Int))), (8, .int (iI ((oUp σ N i c).toNat : Int))), (7, .int (iI (nod σ N (dep σ N i) (σ 4 i) 2))), (6, .int (iI (nod σ N (dep σ N i) (σ 4 i) 1))), (5, .int (iI (nod σ N (dep σ N i) (σ 4 i) 0))), (4, .int (iI (dep σ N i : Int))), (3, .ref (g 10 i)), (0, .ref (g 0 0)), (1, .int (iI (i : Int))), (2, .int (iI c))]) hx dX0_odds_136 (by decide) rfl ?_
            have hg := oG_rg (σ := σ) hi (by omega) c; have hu := oUp_rg (σ := σ) (N := N) (i := i) (by omega) c; have hl := oLo_rg (σ := σ) hi (by omega) c
            refine g_iload_n hx 10 dX0_odds_138 rfl rfl ?_
            refine g_iconst hx dX0_odds_139 ?_
            refine g_irem hx dX0_odds_140 (by omega) (by omega) ?_
            refine g_if_ne hx 152 (by omega) dX0_odds_141 (by decide) (fun c_141 => ?_) (fun c_141 => ?_)
            ·
              refine g_iload hx 1 dX0_odds_152 rfl ?_
              refine g_iload hx 0 dX0_odds_154 rfl ?_
              refine g_idiv hx dX0_odds_156 (by omega) (by omega) ?_
              exact g_iret hx (Nat.zero_le _) (Nat.zero_le _) dX0_odds_157 (pI_ok (by rw [if_pos (by omega)]; unfold oddsS; rw [if_neg c_141, show ((oLo σ N i c).toNat : Int) = oLo σ N i c by omega]))
            ·
              refine g_iload hx 2 dX0_odds_144 rfl ?_
              refine g_iload hx 0 dX0_odds_146 rfl ?_
              refine g_idiv hx dX0_odds_148 (by omega) (by omega) ?_
              refine g_goto hx 157 dX0_odds_149 (by decide) ?_
              exact g_iret hx (Nat.zero_le _) (Nat.zero_le _) dX0_odds_157 (pI_ok (by rw [if_pos (by omega)]; unfold oddsS; rw [if_pos c_141, show ((oUp σ N i c).toNat : Int) = oUp σ N i c by omega]))
  ·
    refine g_iconst hx dX0_odds_19 ?_
    exact g_iret hx (Nat.zero_le _) (Nat.zero_le _) dX0_odds_20 (pI_ok (by rw [if_neg (by omega)]))
theorem kc_oddsN (l : Launch) (G : gG) (g : gA2) (M : gH) (σ : sT) (N : Nat) (lf : Int) (B : Nat) (hI : Iv σ N B) (hR : RC G g M σ N lf) (a : Int) (ha : -2147483648 ≤ a ∧ a ≤ 2147483647) (hn : ¬ (0 ≤ a ∧ a < N)) (c : Int) : GMet l yX0_odds (ws_ yX0_odds cX0_odds 11 (some .int)) ({ frames := 5, cells := 0, slots := 0, locals := 112 } : Room) G [.ref (g 0 0), .int (iI a), .int (iI c)] M (pI M (-1)) 0 0 := by
  refine g_start (by decide) (Nat.le_of_ble_eq_true rfl) (fun x hx => ?_)
  have hb0 := hI.1
  refine g_aload_n hx 0 dX0_odds_0 rfl rfl ?_
  refine g_iload_n hx 1 dX0_odds_1 rfl rfl ?_
  refine g_pcallV (rest := []) (na := 1) hx (k_atN l G g M σ N lf B hI hR a (by omega) (by omega)) hR.o rfl (lw_V q313 q315 qs5 q31 q316) rfl rfl (by decide +kernel) rfl ⟨Nat.le_of_ble_eq_true rfl, Nat.le_of_ble_eq_true rfl⟩ rfl (Nat.le_of_ble_eq_true rfl) dX0_odds_2 ⟨Nat.zero_le _, Nat.zero_le _⟩ ?_
  refine g_astore_nN (lv' := [(3, .null), (0, .ref (g 0 0)), (1, .int (iI a)), (2, .int (iI c))]) hx dX0_odds_5 rfl (by decide) rfl ?_
  refine g_aload_nN hx 0 dX0_odds_6 rfl rfl ?_
  refine g_ifnullN hx 19 dX0_odds_7 (by decide) ?_
  refine g_iconst hx dX0_odds_19 ?_
  exact g_iret hx (Nat.zero_le _) (Nat.zero_le _) dX0_odds_20 (pI_ok rfl)
def slP (σ : sT) (t : Int) (i : Nat) : Prop := σ 3 i = t ∧ wtg σ i ∧ σ 0 0 - σ 1 i < 200
noncomputable def slF (σ : sT) (N : Nat) (t : Int) (i : Nat) : Int := @ite Int (slP σ t i) (Classical.propDecidable _) (sco σ N i) 0
/-- slow(thing) -/
noncomputable def slowS (σ : sT) (N : Nat) (t : Int) : Int := if 0 ≤ t ∧ t ≤ 39 then (@ite Int (∃ i, i < N ∧ slP σ t i ∧ 10000 ≤ sco σ N i) (Classical.propDecidable _) (-1) (if 30000 < sm (slF σ N t) N then sm (slF σ N t) N else -1)) else -1
theorem slF_y {σ : sT} {N : Nat} {t : Int} {k : Nat} (h : slP σ t k) : sm (slF σ N t) k + sco σ N k = sm (slF σ N t) (k + 1) := by show _ = sm (slF σ N t) k + slF σ N t k; unfold slF; rw [if_pos h]
theorem slF_n {σ : sT} {N : Nat} {t : Int} {k : Nat} (h : ¬ slP σ t k) : sm (slF σ N t) k = sm (slF σ N t) (k + 1) := by show _ = sm (slF σ N t) k + slF σ N t k; unfold slF; rw [if_neg h]; omega
theorem slF_rg {σ : sT} {N : Nat} {t : Int} {k : Nat} (hk : k ≤ 64) (hy : ∀ j, j < k → slP σ t j → sco σ N j < 10000) (h5 : ∀ j, j < k → 1 ≤ σ 5 j ∧ σ 5 j ≤ 100) : 0 ≤ sm (slF σ N t) k ∧ sm (slF σ N t) k ≤ 640000 := by
  have := sm_rg (f := slF σ N t) 10000 k (fun i hi => by
    unfold slF
    split
    · have h1 := hy i hi (by assumption)
      have h2 := sco_rg (N := N) (h5 i hi)
      omega
    · omega)
  omega
theorem kc_slow (l : Launch) (G : gG) (g : gA2) (M : gH) (σ : sT) (N : Nat) (lf : Int) (B : Nat) (hI : Iv σ N B) (hR : RC G g M σ N lf) (a : Int) (ha : -2147483648 ≤ a ∧ a ≤ 2147483647) : GMet l yX0_slow (ws_ yX0_slow cX0_slow 6 (some .int)) ({ frames := 6, cells := 0, slots := 0, locals := 135 } : Room) G [.ref (g 0 0), .int (iI a)] M (pI M (slowS σ N a)) 0 0 := by
  refine g_start (by decide) (Nat.le_of_ble_eq_true rfl) (fun x hx => ?_)
  have hb0 := hI.1
  refine g_iload_n hx 1 dX0_slow_0 rfl rfl ?_
  refine g_iconst hx dX0_slow_1 ?_
  refine g_bipush hx dX0_slow_2 (by decide) ?_
  refine g_pcallS (rest := []) (na := 3) hx (k_isIn l G M a 0 39 (by omega) (by omega) (by omega)) (lw_S q145 q146 q31 q147) rfl rfl (by decide +kernel) rfl ⟨Nat.le_of_ble_eq_true rfl, Nat.le_of_ble_eq_true rfl⟩ rfl (Nat.le_of_ble_eq_true rfl) dX0_slow_4 ⟨Nat.zero_le _, Nat.zero_le _⟩ ?_
  refine g_if_neP hx 12 dX0_slow_7 (by decide) (fun c_7 => ?_) (fun c_7 => ?_)
  ·
    refine g_iconst hx dX0_slow_12 ?_
    refine g_istore_n (lv' := [(2, .int (iI 0)), (0, .ref (g 0 0)), (1, .int (iI a))]) hx dX0_slow_13 rfl (by decide) rfl ?_
    refine g_iconst hx dX0_slow_14 ?_
    refine g_istore_n (lv' := [(3, .int (iI 0)), (2, .int (iI 0)), (0, .ref (g 0 0)), (1, .int (iI a))]) hx dX0_slow_15 rfl (by decide) rfl ?_
    have lp_1 : ∀ k : Nat, k ≤ N → (∀ j : Nat, j < k → slP σ a j → sco σ N j < 10000) → GW x (gQx x (pI M (slowS σ N a)) 0 0) M 0 0 16 [(3, .int (iI (k : Int))), (2, .int (iI (sm (slF σ N a) k))), (0, .ref (g 0 0)), (1, .int (iI a))] [] := by
      refine down N (fun k hk_k ih_k hy_k => ?_)
      have hsr := slF_rg (σ := σ) (N := N) (t := a) (k := k) (by omega) hy_k (fun j hj => by have := (hI.2.1 j (by omega)).1; unfold okA at this; omega)
      refine g_iload_n hx 0 dX0_slow_16 rfl rfl ?_
      refine g_aload_n hx 2 dX0_slow_17 rfl rfl ?_
      refine gq85 (v := .ref (g 1 0)) hx rfl dX0_slow_18 hR.o rfl ?_
      refine g_pcallV (rest := [.int (iI (k : Int))]) (na := 0) hx (k_size l G M (g 1 0) (1, 0) (1, 1) N (g 10) hR.ls) ((al_cell hR.ls).choose_spec.choose_spec) rfl (lw_V q160 q161 q162 q34 q163) rfl rfl (by decide +kernel) rfl ⟨Nat.le_of_ble_eq_true rfl, Nat.le_of_ble_eq_true rfl⟩ rfl (Nat.le_of_ble_eq_true rfl) dX0_slow_21 ⟨Nat.zero_le _, Nat.zero_le _⟩ ?_
      refine g_icmp_ge hx 105 (by omega) (by omega) dX0_slow_24 (by decide) (fun c_24 => ?_) (fun c_24 => ?_)
      ·
        have hNk : sm (slF σ N a) N = sm (slF σ N a) k := by rw [show N = k by omega]
        refine g_iload_n hx 1 dX0_slow_105 rfl rfl ?_
        refine g_sipush hx dX0_slow_106 (by decide) ?_
        refine g_icmp_le hx 116 (by omega) (by omega) dX0_slow_109 (by decide) (fun c_109 => ?_) (fun c_109 => ?_)
        ·
          refine g_iconst hx dX0_slow_116 ?_
          exact g_iret hx (Nat.zero_le _) (Nat.zero_le _) dX0_slow_117 (pI_ok (by unfold slowS; rw [if_pos (by omega), if_neg (fun ⟨i, h1, h2, h3⟩ => by have := hy_k i (by omega) h2; omega), if_neg (by rw [hNk]; omega)]))
        ·
          refine g_iload_n hx 1 dX0_slow_112 rfl rfl ?_
          refine g_goto hx 117 dX0_slow_113 (by decide) ?_
          exact g_iret hx (Nat.zero_le _) (Nat.zero_le _) dX0_slow_117 (pI_ok (by unfold slowS; rw [if_pos (by omega), if_neg (fun ⟨i, h1, h2, h3⟩ => by have := hy_k i (by omega) h2; omega), if_pos (by rw [hNk]; omega)]; rw [← hNk]))
      ·
        have hb := (hI.2.1 k (by omega)).1; unfold okA at hb; have hsc := sco_rg (σ := σ) (N := N) (i := k) (by omega)
        refine g_aload_n hx 2 dX0_slow_27 rfl rfl ?_
        refine gq85 (v := .ref (g 1 0)) hx rfl dX0_slow_28 hR.o rfl ?_
        refine g_iload_n hx 0 dX0_slow_31 rfl rfl ?_
        refine g_pcallV (rest := []) (na := 1) hx (k_get l G M (g 1 0) (1, 0) (1, 1) N (g 10) hR.ls k (by omega)) ((al_cell hR.ls).choose_spec.choose_spec) rfl (lw_V q164 q165 q166 q34 q167) rfl rfl (by decide +kernel) rfl ⟨Nat.le_of_ble_eq_true rfl, Nat.le_of_ble_eq_true rfl⟩ rfl (Nat.le_of_ble_eq_true rfl) dX0_slow_32 ⟨Nat.zero_le _, Nat.zero_le _⟩ ?_
        refine g_cast hx (hR.al (i := k) (by omega)) rfl q178 dX0_slow_35 ?_
        refine g_astore (lv' := [(4, .ref (g 10 k)), (3, .int (iI (k : Int))), (2, .int (iI (sm (slF σ N a) k))), (0, .ref (g 0 0)), (1, .int (iI a))]) hx dX0_slow_38 (by decide) rfl ?_
        refine g_aload hx 0 dX0_slow_40 rfl ?_
        refine gq215 (v := .int (iI (σ 3 k))) hx rfl dX0_slow_42 (hR.al (i := k) (by omega)) rfl ?_
        refine g_iload_n hx 4 dX0_slow_45 rfl rfl ?_
        refine g_icmp_ne hx 99 (by omega) (by omega) dX0_slow_46 (by decide) (fun c_46 => ?_) (fun c_46 => ?_)
        ·
          have hns : ¬ slP σ a k := fun h => by have h1 := h.1; have h2 := h.2.1; have h3 := h.2.2; first | omega | (exact absurd h2 (by assumption))
          refine g_lv (lv' := [(4, .ref (g 10 k)), (3, .int (iI (k : Int))), (2, .int (iI (sm (slF σ N a) (k + 1)))), (0, .ref (g 0 0)), (1, .int (iI a))]) [0, 1, 2, 3, 4] (by rw [← slF_n hns]; rfl) ?_
          refine g_iinc (lv' := [(3, .int (iI ((k + 1 : Nat) : Int))), (4, .ref (g 10 k)), (2, .int (iI (sm (slF σ N a) (k + 1)))), (0, .ref (g 0 0)), (1, .int (iI a))]) (b := ((k + 1 : Nat) : Int)) hx 1 dX0_slow_99 rfl (by omega) (by decide) rfl ?_
          refine g_goto hx 16 dX0_slow_102 (by decide) ?_
          exact g_lv [0, 2, 3, 4] rfl (ih_k (by omega) (fun j hj h => by by_cases e : j = k; (· subst e; first | omega | (exact absurd h (by assumption))); (· exact hy_k j (by omega) h)))
        ·
          refine g_aload hx 0 dX0_slow_49 rfl ?_
          refine g_pcallV (rest := []) (na := 0) hx (k_isWaiting l G g M σ N lf B hI hR k (by omega)) (hR.al (i := k) (by omega)) rfl (lw_V q183 q184 q185 q38 q186) rfl rfl (by decide +kernel) rfl ⟨Nat.le_of_ble_eq_true rfl, Nat.le_of_ble_eq_true rfl⟩ rfl (Nat.le_of_ble_eq_true rfl) dX0_slow_51 ⟨Nat.zero_le _, Nat.zero_le _⟩ ?_
          refine g_if_eqP hx 99 dX0_slow_54 (by decide) (fun c_54 => ?_) (fun c_54 => ?_)
          ·
            have hns : ¬ slP σ a k := fun h => by have h1 := h.1; have h2 := h.2.1; have h3 := h.2.2; first | omega | (exact absurd h2 (by assumption))
            refine g_lv (lv' := [(4, .ref (g 10 k)), (3, .int (iI (k : Int))), (2, .int (iI (sm (slF σ N a) (k + 1)))), (0, .ref (g 0 0)), (1, .int (iI a))]) [0, 1, 2, 3, 4] (by rw [← slF_n hns]; rfl) ?_
            refine g_iinc (lv' := [(3, .int (iI ((k + 1 : Nat) : Int))), (4, .ref (g 10 k)), (2, .int (iI (sm (slF σ N a) (k + 1)))), (0, .ref (g 0 0)), (1, .int (iI a))]) (b := ((k + 1 : Nat) : Int)) hx 1 dX0_slow_99 rfl (by omega) (by decide) rfl ?_
            refine g_goto hx 16 dX0_slow_102 (by decide) ?_
            exact g_lv [0, 2, 3, 4] rfl (ih_k (by omega) (fun j hj h => by by_cases e : j = k; (· subst e; first | omega | (exact absurd h (by assumption))); (· exact hy_k j (by omega) h)))
          ·
            refine g_aload hx 0 dX0_slow_57 rfl ?_
            refine gq211 (v := .int (iI (σ 1 k))) hx rfl dX0_slow_59 (hR.al (i := k) (by omega)) rfl ?_
            refine g_aload_n hx 3 dX0_slow_62 rfl rfl ?_
            refine gq81 (v := .int (iI (σ 0 0))) hx rfl dX0_slow_63 hR.o rfl ?_
            refine g_sipush hx dX0_slow_66 (by decide) ?_
            refine g_isub hx dX0_slow_69 ?_
            refine g_icmp_gt hx 76 (by omega) (by omega) dX0_slow_70 (by decide) (fun c_70 => ?_) (fun c_70 => ?_)
            ·
              refine g_aload_n hx 3 dX0_slow_76 rfl rfl ?_
              refine g_aload hx 0 dX0_slow_77 rfl ?_
              refine g_pcallV (rest := []) (na := 1) hx (kc_scoreOf l G g M σ N lf B hI hR k (by omega)) hR.o rfl (lw_V q367 q369 qs9 q31 q370) rfl rfl (by decide +kernel) rfl ⟨Nat.le_of_ble_eq_true rfl, Nat.le_of_ble_eq_true rfl⟩ rfl (Nat.le_of_ble_eq_true rfl) dX0_slow_79 ⟨Nat.zero_le _, Nat.zero_le _⟩ ?_
              refine g_istore (lv' := [(5, .int (iI (sco σ N k))), (4, .ref (g 10 k)), (3, .int (iI (k : Int))), (2, .int (iI (sm (slF σ N a) k))), (0, .ref (g 0 0)), (1, .int (iI a))]) hx dX0_slow_82 (by decide) rfl ?_
              refine g_iload hx 0 dX0_slow_84 rfl ?_
              refine g_sipush hx dX0_slow_86 (by decide) ?_
              refine g_icmp_lt hx 94 (by omega) (by omega) dX0_slow_89 (by decide) (fun c_89 => ?_) (fun c_89 => ?_)
              ·
                refine g_iload_n hx 3 dX0_slow_94 rfl rfl ?_
                refine g_iload hx 0 dX0_slow_95 rfl ?_
                refine g_iadd hx dX0_slow_97 ?_
                refine g_top (b := sm (slF σ N a) (k + 1)) (slF_y ⟨c_46, c_54, by omega⟩) ?_
                refine g_istore_n (lv' := [(2, .int (iI (sm (slF σ N a) (k + 1)))), (5, .int (iI (sco σ N k))), (4, .ref (g 10 k)), (3, .int (iI (k : Int))), (0, .ref (g 0 0)), (1, .int (iI a))]) hx dX0_slow_98 rfl (by decide) rfl ?_
                refine g_iinc (lv' := [(3, .int (iI ((k + 1 : Nat) : Int))), (2, .int (iI (sm (slF σ N a) (k + 1)))), (5, .int (iI (sco σ N k))), (4, .ref (g 10 k)), (0, .ref (g 0 0)), (1, .int (iI a))]) (b := ((k + 1 : Nat) : Int)) hx 3 dX0_slow_99 rfl (by omega) (by decide) rfl ?_
                refine g_goto hx 16 dX0_slow_102 (by decide) ?_
                exact g_lv [0, 1, 4, 5] rfl (ih_k (by omega) (fun j hj h => by by_cases e : j = k; (· subst e; first | omega | (exact absurd h (by assumption))); (· exact hy_k j (by omega) h)))
              ·
                refine g_iconst hx dX0_slow_92 ?_
                exact g_iret hx (Nat.zero_le _) (Nat.zero_le _) dX0_slow_93 (pI_ok (by unfold slowS; rw [if_pos (by omega), if_pos ⟨k, by omega, ⟨c_46, c_54, by omega⟩, by omega⟩]))
            ·
              refine g_goto hx 99 dX0_slow_73 (by decide) ?_
              have hns : ¬ slP σ a k := fun h => by have h1 := h.1; have h2 := h.2.1; have h3 := h.2.2; first | omega | (exact absurd h2 (by assumption))
              refine g_lv (lv' := [(4, .ref (g 10 k)), (3, .int (iI (k : Int))), (2, .int (iI (sm (slF σ N a) (k + 1)))), (0, .ref (g 0 0)), (1, .int (iI a))]) [0, 1, 2, 3, 4] (by rw [← slF_n hns]; rfl) ?_
              refine g_iinc (lv' := [(3, .int (iI ((k + 1 : Nat) : Int))), (4, .ref (g 10 k)), (2, .int (iI (sm (slF σ N a) (k + 1)))), (0, .ref (g 0 0)), (1, .int (iI a))]) (b := ((k + 1 : Nat) : Int)) hx 1 dX0_slow_99 rfl (by omega) (by decide) rfl ?_
              refine g_goto hx 16 dX0_slow_102 (by decide) ?_
              exact g_lv [0, 2, 3, 4] rfl (ih_k (by omega) (fun j hj h => by by_cases e : j = k; (· subst e; first | omega | (exact absurd h (by assumption))); (· exact hy_k j (by omega) h)))
    exact g_lv [0, 1, 2, 3] rfl (lp_1 0 (Nat.zero_le _) (fun j hj => by omega))
  ·
    refine g_iconst hx dX0_slow_10 ?_
    exact g_iret hx (Nat.zero_le _) (Nat.zero_le _) dX0_slow_11 (pI_ok (by unfold slowS; rw [if_neg (by omega)]))
noncomputable def srv (σ : sT) (w : Int) (i : Nat) : Int := if w = 0 then 1 else if w = 1 then σ 8 i else if w = 2 then bz (σ 6 i = 1) else if w = 3 then bz (σ 7 i = 1) else if w = 4 then bz (σ 10 i = 1) else if w = 5 then bz (σ 10 i = 2) else bz (σ 10 i = 1 ∧ ¬ hrd σ i)
noncomputable def srf (σ : sT) (a w : Int) (i : Nat) : Int := if σ 2 i = a then srv σ w i else 0
/-- source(source, what) -/
noncomputable def srcS (σ : sT) (N : Nat) (a w : Int) : Int := if (0 ≤ a ∧ a ≤ 9) ∧ (0 ≤ w ∧ w ≤ 6) then sm (srf σ a w) N else -1
theorem srf_y {σ : sT} {a w v : Int} {k : Nat} (h : σ 2 k = a) (hv : srv σ w k = v) : sm (srf σ a w) k + v = sm (srf σ a w) (k + 1) := by show _ = sm (srf σ a w) k + srf σ a w k; unfold srf; rw [if_pos h, hv]
theorem srf_n {σ : sT} {a w : Int} {k : Nat} (h : ¬ σ 2 k = a) : sm (srf σ a w) k = sm (srf σ a w) (k + 1) := by show _ = sm (srf σ a w) k + srf σ a w k; unfold srf; rw [if_neg h]; omega
theorem kc_source (l : Launch) (G : gG) (g : gA2) (M : gH) (σ : sT) (N : Nat) (lf : Int) (B : Nat) (hI : Iv σ N B) (hR : RC G g M σ N lf) (a b : Int) (ha : -2147483648 ≤ a ∧ a ≤ 2147483647) (hb2 : -2147483648 ≤ b ∧ b ≤ 2147483647) : GMet l yX0_source (ws_ yX0_source cX0_source 6 (some .int)) ({ frames := 3, cells := 0, slots := 0, locals := 64 } : Room) G [.ref (g 0 0), .int (iI a), .int (iI b)] M (pI M (srcS σ N a b)) 0 0 := by
  refine g_start (by decide) (Nat.le_of_ble_eq_true rfl) (fun x hx => ?_)
  have hb0 := hI.1
  refine g_iload_n hx 1 dX0_source_0 rfl rfl ?_
  refine g_iconst hx dX0_source_1 ?_
  refine g_bipush hx dX0_source_2 (by decide) ?_
  refine g_pcallS (rest := []) (na := 3) hx (k_isIn l G M a 0 9 (by omega) (by omega) (by omega)) (lw_S q145 q146 q31 q147) rfl rfl (by decide +kernel) rfl ⟨Nat.le_of_ble_eq_true rfl, Nat.le_of_ble_eq_true rfl⟩ rfl (Nat.le_of_ble_eq_true rfl) dX0_source_4 ⟨Nat.zero_le _, Nat.zero_le _⟩ ?_
  refine g_if_eqP hx 20 dX0_source_7 (by decide) (fun c_7 => ?_) (fun c_7 => ?_)
  ·
    refine g_iconst hx dX0_source_20 ?_
    exact g_iret hx (Nat.zero_le _) (Nat.zero_le _) dX0_source_21 (pI_ok (by unfold srcS; rw [if_neg (by omega)]))
  ·
    refine g_iload_n hx 2 dX0_source_10 rfl rfl ?_
    refine g_iconst hx dX0_source_11 ?_
    refine g_bipush hx dX0_source_12 (by decide) ?_
    refine g_pcallS (rest := []) (na := 3) hx (k_isIn l G M b 0 6 (by omega) (by omega) (by omega)) (lw_S q145 q146 q31 q147) rfl rfl (by decide +kernel) rfl ⟨Nat.le_of_ble_eq_true rfl, Nat.le_of_ble_eq_true rfl⟩ rfl (Nat.le_of_ble_eq_true rfl) dX0_source_14 ⟨Nat.zero_le _, Nat.zero_le _⟩ ?_
    refine g_if_neP hx 22 dX0_source_17 (by decide) (fun c_17 => ?_) (fun c_17 => ?_)
    ·
      refine g_iconst hx dX0_source_22 ?_
      refine g_istore_n (lv' := [(3, .int (iI 0)), (0, .ref (g 0 0)), (1, .int (iI a)), (2, .int (iI b))]) hx dX0_source_23 rfl (by decide) rfl ?_
      refine g_iconst hx dX0_source_24 ?_
      refine g_istore (lv' := [(4, .int (iI 0)), (3, .int (iI 0)), (0, .ref (g 0 0)), (1, .int (iI a)), (2, .int (iI b))]) hx dX0_source_25 (by decide) rfl ?_
      have lp_1 : ∀ k : Nat, k ≤ N → GW x (gQx x (pI M (srcS σ N a b)) 0 0) M 0 0 27 [(4, .int (iI (k : Int))), (3, .int (iI (sm (srf σ a b) k))), (0, .ref (g 0 0)), (1, .int (iI a)), (2, .int (iI b))] [] := by
        refine down N (fun k hk_k ih_k => ?_)
        refine g_iload hx 0 dX0_source_27 rfl ?_
        refine g_aload_n hx 2 dX0_source_29 rfl rfl ?_
        refine gq85 (v := .ref (g 1 0)) hx rfl dX0_source_30 hR.o rfl ?_
        refine g_pcallV (rest := [.int (iI (k : Int))]) (na := 0) hx (k_size l G M (g 1 0) (1, 0) (1, 1) N (g 10) hR.ls) ((al_cell hR.ls).choose_spec.choose_spec) rfl (lw_V q160 q161 q162 q34 q163) rfl rfl (by decide +kernel) rfl ⟨Nat.le_of_ble_eq_true rfl, Nat.le_of_ble_eq_true rfl⟩ rfl (Nat.le_of_ble_eq_true rfl) dX0_source_33 ⟨Nat.zero_le _, Nat.zero_le _⟩ ?_
        refine g_icmp_ge hx 230 (by omega) (by omega) dX0_source_36 (by decide) (fun c_36 => ?_) (fun c_36 => ?_)
        ·
          refine g_iload_n hx 1 dX0_source_230 rfl rfl ?_
          exact g_iret hx (Nat.zero_le _) (Nat.zero_le _) dX0_source_231 (pI_ok (by unfold srcS; rw [if_pos (by omega), show N = k by omega]))
        ·
          have hb := (hI.2.1 k (by omega)).1; unfold okA at hb
          refine g_aload_n hx 2 dX0_source_39 rfl rfl ?_
          refine gq85 (v := .ref (g 1 0)) hx rfl dX0_source_40 hR.o rfl ?_
          refine g_iload hx 0 dX0_source_43 rfl ?_
          refine g_pcallV (rest := []) (na := 1) hx (k_get l G M (g 1 0) (1, 0) (1, 1) N (g 10) hR.ls k (by omega)) ((al_cell hR.ls).choose_spec.choose_spec) rfl (lw_V q164 q165 q166 q34 q167) rfl rfl (by decide +kernel) rfl ⟨Nat.le_of_ble_eq_true rfl, Nat.le_of_ble_eq_true rfl⟩ rfl (Nat.le_of_ble_eq_true rfl) dX0_source_45 ⟨Nat.zero_le _, Nat.zero_le _⟩ ?_
          refine g_cast hx (hR.al (i := k) (by omega)) rfl q178 dX0_source_48 ?_
          refine g_astore (lv' := [(5, .ref (g 10 k)), (4, .int (iI (k : Int))), (3, .int (iI (sm (srf σ a b) k))), (0, .ref (g 0 0)), (1, .int (iI a)), (2, .int (iI b))]) hx dX0_source_51 (by decide) rfl ?_
          refine g_aload hx 0 dX0_source_53 rfl ?_
          refine gq213 (v := .int (iI (σ 2 k))) hx rfl dX0_source_55 (hR.al (i := k) (by omega)) rfl ?_
          refine g_iload_n hx 4 dX0_source_58 rfl rfl ?_
          refine g_icmp_eq hx 65 (by omega) (by omega) dX0_source_59 (by decide) (fun c_59 => ?_) (fun c_59 => ?_)
          ·
            refine g_iload_n hx 5 dX0_source_65 rfl rfl ?_
            by_cases c_66_0 : b = 0
            ·
              refine g_tsAt hx 0 104 c_66_0 (by decide) dX0_source_66 (by rfl) (by decide) ?_
              refine g_iinc (lv' := [(3, .int (iI (sm (srf σ a b) (k + 1)))), (5, .ref (g 10 k)), (4, .int (iI (k : Int))), (0, .ref (g 0 0)), (1, .int (iI a)), (2, .int (iI b))]) (b := (sm (srf σ a b) (k + 1))) hx 2 dX0_source_104 rfl (srf_y c_59 (by unfold srv; rw [if_pos (by omega)])) (by decide) rfl ?_
              refine g_goto hx 224 dX0_source_107 (by decide) ?_
              refine g_iinc (lv' := [(4, .int (iI ((k + 1 : Nat) : Int))), (3, .int (iI (sm (srf σ a b) (k + 1)))), (5, .ref (g 10 k)), (0, .ref (g 0 0)), (1, .int (iI a)), (2, .int (iI b))]) (b := ((k + 1 : Nat) : Int)) hx 2 dX0_source_224 rfl (by omega) (by decide) rfl ?_
              refine g_goto hx 27 dX0_source_227 (by decide) ?_
              exact g_lv [0, 1, 3, 4, 5] rfl (ih_k (by omega))
            by_cases c_66_1 : b = 1
            ·
              refine g_tsAt hx 1 110 c_66_1 (by decide) dX0_source_66 (by rfl) (by decide) ?_
              refine g_iload_n hx 2 dX0_source_110 rfl rfl ?_
              refine g_aload hx 0 dX0_source_111 rfl ?_
              refine gq226 (v := .int (iI (σ 8 k))) hx rfl dX0_source_113 (hR.al (i := k) (by omega)) rfl ?_
              refine g_iadd hx dX0_source_116 ?_
              refine g_top (b := sm (srf σ a b) (k + 1)) (srf_y c_59 (by unfold srv; rw [if_neg (by omega), if_pos (by omega)])) ?_
              refine g_istore_n (lv' := [(3, .int (iI (sm (srf σ a b) (k + 1)))), (5, .ref (g 10 k)), (4, .int (iI (k : Int))), (0, .ref (g 0 0)), (1, .int (iI a)), (2, .int (iI b))]) hx dX0_source_117 rfl (by decide) rfl ?_
              refine g_goto hx 224 dX0_source_118 (by decide) ?_
              refine g_iinc (lv' := [(4, .int (iI ((k + 1 : Nat) : Int))), (3, .int (iI (sm (srf σ a b) (k + 1)))), (5, .ref (g 10 k)), (0, .ref (g 0 0)), (1, .int (iI a)), (2, .int (iI b))]) (b := ((k + 1 : Nat) : Int)) hx 2 dX0_source_224 rfl (by omega) (by decide) rfl ?_
              refine g_goto hx 27 dX0_source_227 (by decide) ?_
              exact g_lv [0, 1, 3, 4, 5] rfl (ih_k (by omega))
            by_cases c_66_2 : b = 2
            ·
              refine g_tsAt hx 2 121 c_66_2 (by decide) dX0_source_66 (by rfl) (by decide) ?_
              refine g_iload_n hx 2 dX0_source_121 rfl rfl ?_
              refine g_aload hx 0 dX0_source_122 rfl ?_
              refine gq221 (v := .int (iI (σ 6 k))) hx rfl dX0_source_124 (hR.al (i := k) (by omega)) rfl ?_
              refine g_if_eq hx 134 (by omega) dX0_source_127 (by decide) (fun c_127 => ?_) (fun c_127 => ?_)
              ·
                refine g_iconst hx dX0_source_134 ?_
                refine g_iadd hx dX0_source_135 ?_
                refine g_top (b := sm (srf σ a b) (k + 1)) (srf_y c_59 (by unfold srv; rw [if_neg (by omega), if_neg (by omega), if_pos (by omega)]; exact bz_f (by omega))) ?_
                refine g_istore_n (lv' := [(3, .int (iI (sm (srf σ a b) (k + 1)))), (5, .ref (g 10 k)), (4, .int (iI (k : Int))), (0, .ref (g 0 0)), (1, .int (iI a)), (2, .int (iI b))]) hx dX0_source_136 rfl (by decide) rfl ?_
                refine g_goto hx 224 dX0_source_137 (by decide) ?_
                refine g_iinc (lv' := [(4, .int (iI ((k + 1 : Nat) : Int))), (3, .int (iI (sm (srf σ a b) (k + 1)))), (5, .ref (g 10 k)), (0, .ref (g 0 0)), (1, .int (iI a)), (2, .int (iI b))]) (b := ((k + 1 : Nat) : Int)) hx 2 dX0_source_224 rfl (by omega) (by decide) rfl ?_
                refine g_goto hx 27 dX0_source_227 (by decide) ?_
                exact g_lv [0, 1, 3, 4, 5] rfl (ih_k (by omega))
              ·
                refine g_iconst hx dX0_source_130 ?_
                refine g_goto hx 135 dX0_source_131 (by decide) ?_
                refine g_iadd hx dX0_source_135 ?_
                refine g_top (b := sm (srf σ a b) (k + 1)) (srf_y c_59 (by unfold srv; rw [if_neg (by omega), if_neg (by omega), if_pos (by omega)]; exact bz_t (by omega))) ?_
                refine g_istore_n (lv' := [(3, .int (iI (sm (srf σ a b) (k + 1)))), (5, .ref (g 10 k)), (4, .int (iI (k : Int))), (0, .ref (g 0 0)), (1, .int (iI a)), (2, .int (iI b))]) hx dX0_source_136 rfl (by decide) rfl ?_
                refine g_goto hx 224 dX0_source_137 (by decide) ?_
                refine g_iinc (lv' := [(4, .int (iI ((k + 1 : Nat) : Int))), (3, .int (iI (sm (srf σ a b) (k + 1)))), (5, .ref (g 10 k)), (0, .ref (g 0 0)), (1, .int (iI a)), (2, .int (iI b))]) (b := ((k + 1 : Nat) : Int)) hx 2 dX0_source_224 rfl (by omega) (by decide) rfl ?_
                refine g_goto hx 27 dX0_source_227 (by decide) ?_
                exact g_lv [0, 1, 3, 4, 5] rfl (ih_k (by omega))
            by_cases c_66_3 : b = 3
            ·
              refine g_tsAt hx 3 140 c_66_3 (by decide) dX0_source_66 (by rfl) (by decide) ?_
              refine g_iload_n hx 2 dX0_source_140 rfl rfl ?_
              refine g_aload hx 0 dX0_source_141 rfl ?_
              refine gq223 (v := .int (iI (σ 7 k))) hx rfl dX0_source_143 (hR.al (i := k) (by omega)) rfl ?_
              refine g_if_eq hx 153 (by omega) dX0_source_146 (by decide) (fun c_146 => ?_) (fun c_146 => ?_)
              ·
                refine g_iconst hx dX0_source_153 ?_
                refine g_iadd hx dX0_source_154 ?_
                refine g_top (b := sm (srf σ a b) (k + 1)) (srf_y c_59 (by unfold srv; rw [if_neg (by omega), if_neg (by omega), if_neg (by omega), if_pos (by omega)]; exact bz_f (by omega))) ?_
                refine g_istore_n (lv' := [(3, .int (iI (sm (srf σ a b) (k + 1)))), (5, .ref (g 10 k)), (4, .int (iI (k : Int))), (0, .ref (g 0 0)), (1, .int (iI a)), (2, .int (iI b))]) hx dX0_source_155 rfl (by decide) rfl ?_
                refine g_goto hx 224 dX0_source_156 (by decide) ?_
                refine g_iinc (lv' := [(4, .int (iI ((k + 1 : Nat) : Int))), (3, .int (iI (sm (srf σ a b) (k + 1)))), (5, .ref (g 10 k)), (0, .ref (g 0 0)), (1, .int (iI a)), (2, .int (iI b))]) (b := ((k + 1 : Nat) : Int)) hx 2 dX0_source_224 rfl (by omega) (by decide) rfl ?_
                refine g_goto hx 27 dX0_source_227 (by decide) ?_
                exact g_lv [0, 1, 3, 4, 5] rfl (ih_k (by omega))
              ·
                refine g_iconst hx dX0_source_149 ?_
                refine g_goto hx 154 dX0_source_150 (by decide) ?_
                refine g_iadd hx dX0_source_154 ?_
                refine g_top (b := sm (srf σ a b) (k + 1)) (srf_y c_59 (by unfold srv; rw [if_neg (by omega), if_neg (by omega), if_neg (by omega), if_pos (by omega)]; exact bz_t (by omega))) ?_
                refine g_istore_n (lv' := [(3, .int (iI (sm (srf σ a b) (k + 1)))), (5, .ref (g 10 k)), (4, .int (iI (k : Int))), (0, .ref (g 0 0)), (1, .int (iI a)), (2, .int (iI b))]) hx dX0_source_155 rfl (by decide) rfl ?_
                refine g_goto hx 224 dX0_source_156 (by decide) ?_
                refine g_iinc (lv' := [(4, .int (iI ((k + 1 : Nat) : Int))), (3, .int (iI (sm (srf σ a b) (k + 1)))), (5, .ref (g 10 k)), (0, .ref (g 0 0)), (1, .int (iI a)), (2, .int (iI b))]) (b := ((k + 1 : Nat) : Int)) hx 2 dX0_source_224 rfl (by omega) (by decide) rfl ?_
                refine g_goto hx 27 dX0_source_227 (by decide) ?_
                exact g_lv [0, 1, 3, 4, 5] rfl (ih_k (by omega))
            by_cases c_66_4 : b = 4
            ·
              refine g_tsAt hx 4 159 c_66_4 (by decide) dX0_source_66 (by rfl) (by decide) ?_
              refine g_iload_n hx 2 dX0_source_159 rfl rfl ?_
              refine g_aload hx 0 dX0_source_160 rfl ?_
              refine gq230 (v := .int (iI (σ 10 k))) hx rfl dX0_source_162 (hR.al (i := k) (by omega)) rfl ?_
              refine g_iconst hx dX0_source_165 ?_
              refine g_icmp_ne hx 173 (by omega) (by omega) dX0_source_166 (by decide) (fun c_166 => ?_) (fun c_166 => ?_)
              ·
                refine g_iconst hx dX0_source_173 ?_
                refine g_iadd hx dX0_source_174 ?_
                refine g_top (b := sm (srf σ a b) (k + 1)) (srf_y c_59 (by unfold srv; rw [if_neg (by omega), if_neg (by omega), if_neg (by omega), if_neg (by omega), if_pos (by omega)]; exact bz_f (by omega))) ?_
                refine g_istore_n (lv' := [(3, .int (iI (sm (srf σ a b) (k + 1)))), (5, .ref (g 10 k)), (4, .int (iI (k : Int))), (0, .ref (g 0 0)), (1, .int (iI a)), (2, .int (iI b))]) hx dX0_source_175 rfl (by decide) rfl ?_
                refine g_goto hx 224 dX0_source_176 (by decide) ?_
                refine g_iinc (lv' := [(4, .int (iI ((k + 1 : Nat) : Int))), (3, .int (iI (sm (srf σ a b) (k + 1)))), (5, .ref (g 10 k)), (0, .ref (g 0 0)), (1, .int (iI a)), (2, .int (iI b))]) (b := ((k + 1 : Nat) : Int)) hx 2 dX0_source_224 rfl (by omega) (by decide) rfl ?_
                refine g_goto hx 27 dX0_source_227 (by decide) ?_
                exact g_lv [0, 1, 3, 4, 5] rfl (ih_k (by omega))
              ·
                refine g_iconst hx dX0_source_169 ?_
                refine g_goto hx 174 dX0_source_170 (by decide) ?_
                refine g_iadd hx dX0_source_174 ?_
                refine g_top (b := sm (srf σ a b) (k + 1)) (srf_y c_59 (by unfold srv; rw [if_neg (by omega), if_neg (by omega), if_neg (by omega), if_neg (by omega), if_pos (by omega)]; exact bz_t (by omega))) ?_
                refine g_istore_n (lv' := [(3, .int (iI (sm (srf σ a b) (k + 1)))), (5, .ref (g 10 k)), (4, .int (iI (k : Int))), (0, .ref (g 0 0)), (1, .int (iI a)), (2, .int (iI b))]) hx dX0_source_175 rfl (by decide) rfl ?_
                refine g_goto hx 224 dX0_source_176 (by decide) ?_
                refine g_iinc (lv' := [(4, .int (iI ((k + 1 : Nat) : Int))), (3, .int (iI (sm (srf σ a b) (k + 1)))), (5, .ref (g 10 k)), (0, .ref (g 0 0)), (1, .int (iI a)), (2, .int (iI b))]) (b := ((k + 1 : Nat) : Int)) hx 2 dX0_source_224 rfl (by omega) (by decide) rfl ?_
                refine g_goto hx 27 dX0_source_227 (by decide) ?_
                exact g_lv [0, 1, 3, 4, 5] rfl (ih_k (by omega))
            by_cases c_66_5 : b = 5
            ·
              refine g_tsAt hx 5 179 c_66_5 (by decide) dX0_source_66 (by rfl) (by decide) ?_
              refine g_iload_n hx 2 dX0_source_179 rfl rfl ?_
              refine g_aload hx 0 dX0_source_180 rfl ?_
              refine gq230 (v := .int (iI (σ 10 k))) hx rfl dX0_source_182 (hR.al (i := k) (by omega)) rfl ?_
              refine g_iconst hx dX0_source_185 ?_
              refine g_icmp_ne hx 193 (by omega) (by omega) dX0_source_186 (by decide) (fun c_186 => ?_) (fun c_186 => ?_)
              ·
                refine g_iconst hx dX0_source_193 ?_
                refine g_iadd hx dX0_source_194 ?_
                refine g_top (b := sm (srf σ a b) (k + 1)) (srf_y c_59 (by unfold srv; rw [if_neg (by omega), if_neg (by omega), if_neg (by omega), if_neg (by omega), if_neg (by omega), if_pos (by omega)]; exact bz_f (by omega))) ?_
                refine g_istore_n (lv' := [(3, .int (iI (sm (srf σ a b) (k + 1)))), (5, .ref (g 10 k)), (4, .int (iI (k : Int))), (0, .ref (g 0 0)), (1, .int (iI a)), (2, .int (iI b))]) hx dX0_source_195 rfl (by decide) rfl ?_
                refine g_goto hx 224 dX0_source_196 (by decide) ?_
                refine g_iinc (lv' := [(4, .int (iI ((k + 1 : Nat) : Int))), (3, .int (iI (sm (srf σ a b) (k + 1)))), (5, .ref (g 10 k)), (0, .ref (g 0 0)), (1, .int (iI a)), (2, .int (iI b))]) (b := ((k + 1 : Nat) : Int)) hx 2 dX0_source_224 rfl (by omega) (by decide) rfl ?_
                refine g_goto hx 27 dX0_source_227 (by decide) ?_
                exact g_lv [0, 1, 3, 4, 5] rfl (ih_k (by omega))
              ·
                refine g_iconst hx dX0_source_189 ?_
                refine g_goto hx 194 dX0_source_190 (by decide) ?_
                refine g_iadd hx dX0_source_194 ?_
                refine g_top (b := sm (srf σ a b) (k + 1)) (srf_y c_59 (by unfold srv; rw [if_neg (by omega), if_neg (by omega), if_neg (by omega), if_neg (by omega), if_neg (by omega), if_pos (by omega)]; exact bz_t (by omega))) ?_
                refine g_istore_n (lv' := [(3, .int (iI (sm (srf σ a b) (k + 1)))), (5, .ref (g 10 k)), (4, .int (iI (k : Int))), (0, .ref (g 0 0)), (1, .int (iI a)), (2, .int (iI b))]) hx dX0_source_195 rfl (by decide) rfl ?_
                refine g_goto hx 224 dX0_source_196 (by decide) ?_
                refine g_iinc (lv' := [(4, .int (iI ((k + 1 : Nat) : Int))), (3, .int (iI (sm (srf σ a b) (k + 1)))), (5, .ref (g 10 k)), (0, .ref (g 0 0)), (1, .int (iI a)), (2, .int (iI b))]) (b := ((k + 1 : Nat) : Int)) hx 2 dX0_source_224 rfl (by omega) (by decide) rfl ?_
                refine g_goto hx 27 dX0_source_227 (by decide) ?_
                exact g_lv [0, 1, 3, 4, 5] rfl (ih_k (by omega))
            refine g_tsOut hx 199 (by omega) (by omega) dX0_source_66 (by decide) ?_
            refine g_iload_n hx 2 dX0_source_199 rfl rfl ?_
            refine g_aload hx 0 dX0_source_200 rfl ?_
            refine gq230 (v := .int (iI (σ 10 k))) hx rfl dX0_source_202 (hR.al (i := k) (by omega)) rfl ?_
            refine g_iconst hx dX0_source_205 ?_
            refine g_icmp_ne hx 221 (by omega) (by omega) dX0_source_206 (by decide) (fun c_206 => ?_) (fun c_206 => ?_)
            ·
              refine g_iconst hx dX0_source_221 ?_
              refine g_iadd hx dX0_source_222 ?_
              refine g_top (b := sm (srf σ a b) (k + 1)) (srf_y c_59 (by unfold srv; rw [if_neg (by omega), if_neg (by omega), if_neg (by omega), if_neg (by omega), if_neg (by omega), if_neg (by omega)]; exact bz_f (fun h => by have h1 := h.1; have h2 := h.2; first | omega | (exact h2 (by assumption))))) ?_
              refine g_istore_n (lv' := [(3, .int (iI (sm (srf σ a b) (k + 1)))), (5, .ref (g 10 k)), (4, .int (iI (k : Int))), (0, .ref (g 0 0)), (1, .int (iI a)), (2, .int (iI b))]) hx dX0_source_223 rfl (by decide) rfl ?_
              refine g_iinc (lv' := [(4, .int (iI ((k + 1 : Nat) : Int))), (3, .int (iI (sm (srf σ a b) (k + 1)))), (5, .ref (g 10 k)), (0, .ref (g 0 0)), (1, .int (iI a)), (2, .int (iI b))]) (b := ((k + 1 : Nat) : Int)) hx 2 dX0_source_224 rfl (by omega) (by decide) rfl ?_
              refine g_goto hx 27 dX0_source_227 (by decide) ?_
              exact g_lv [0, 1, 3, 4, 5] rfl (ih_k (by omega))
            ·
              refine g_aload hx 0 dX0_source_209 rfl ?_
              refine g_pcallV (rest := [.int (iI (sm (srf σ a b) k))]) (na := 0) hx (k_isHeard l G g M σ N lf B hI hR k (by omega)) (hR.al (i := k) (by omega)) rfl (lw_V q200 q188 q189 q38 q190) rfl rfl (by decide +kernel) rfl ⟨Nat.le_of_ble_eq_true rfl, Nat.le_of_ble_eq_true rfl⟩ rfl (Nat.le_of_ble_eq_true rfl) dX0_source_211 ⟨Nat.zero_le _, Nat.zero_le _⟩ ?_
              refine g_if_neP hx 221 dX0_source_214 (by decide) (fun c_214 => ?_) (fun c_214 => ?_)
              ·
                refine g_iconst hx dX0_source_221 ?_
                refine g_iadd hx dX0_source_222 ?_
                refine g_top (b := sm (srf σ a b) (k + 1)) (srf_y c_59 (by unfold srv; rw [if_neg (by omega), if_neg (by omega), if_neg (by omega), if_neg (by omega), if_neg (by omega), if_neg (by omega)]; exact bz_f (fun h => by have h1 := h.1; have h2 := h.2; first | omega | (exact h2 (by assumption))))) ?_
                refine g_istore_n (lv' := [(3, .int (iI (sm (srf σ a b) (k + 1)))), (5, .ref (g 10 k)), (4, .int (iI (k : Int))), (0, .ref (g 0 0)), (1, .int (iI a)), (2, .int (iI b))]) hx dX0_source_223 rfl (by decide) rfl ?_
                refine g_iinc (lv' := [(4, .int (iI ((k + 1 : Nat) : Int))), (3, .int (iI (sm (srf σ a b) (k + 1)))), (5, .ref (g 10 k)), (0, .ref (g 0 0)), (1, .int (iI a)), (2, .int (iI b))]) (b := ((k + 1 : Nat) : Int)) hx 2 dX0_source_224 rfl (by omega) (by decide) rfl ?_
                refine g_goto hx 27 dX0_source_227 (by decide) ?_
                exact g_lv [0, 1, 3, 4, 5] rfl (ih_k (by omega))
              ·
                refine g_iconst hx dX0_source_217 ?_
                refine g_goto hx 222 dX0_source_218 (by decide) ?_
                refine g_iadd hx dX0_source_222 ?_
                refine g_top (b := sm (srf σ a b) (k + 1)) (srf_y c_59 (by unfold srv; rw [if_neg (by omega), if_neg (by omega), if_neg (by omega), if_neg (by omega), if_neg (by omega), if_neg (by omega)]; exact bz_t (⟨by omega, c_214⟩))) ?_
                refine g_istore_n (lv' := [(3, .int (iI (sm (srf σ a b) (k + 1)))), (5, .ref (g 10 k)), (4, .int (iI (k : Int))), (0, .ref (g 0 0)), (1, .int (iI a)), (2, .int (iI b))]) hx dX0_source_223 rfl (by decide) rfl ?_
                refine g_iinc (lv' := [(4, .int (iI ((k + 1 : Nat) : Int))), (3, .int (iI (sm (srf σ a b) (k + 1)))), (5, .ref (g 10 k)), (0, .ref (g 0 0)), (1, .int (iI a)), (2, .int (iI b))]) (b := ((k + 1 : Nat) : Int)) hx 2 dX0_source_224 rfl (by omega) (by decide) rfl ?_
                refine g_goto hx 27 dX0_source_227 (by decide) ?_
                exact g_lv [0, 1, 3, 4, 5] rfl (ih_k (by omega))
          ·
            refine g_goto hx 224 dX0_source_62 (by decide) ?_
            refine g_lv (lv' := [(5, .ref (g 10 k)), (4, .int (iI (k : Int))), (3, .int (iI (sm (srf σ a b) (k + 1)))), (0, .ref (g 0 0)), (1, .int (iI a)), (2, .int (iI b))]) [0, 1, 2, 3, 4, 5] (by rw [← srf_n c_59]; rfl) ?_
            refine g_iinc (lv' := [(4, .int (iI ((k + 1 : Nat) : Int))), (5, .ref (g 10 k)), (3, .int (iI (sm (srf σ a b) (k + 1)))), (0, .ref (g 0 0)), (1, .int (iI a)), (2, .int (iI b))]) (b := ((k + 1 : Nat) : Int)) hx 1 dX0_source_224 rfl (by omega) (by decide) rfl ?_
            refine g_goto hx 27 dX0_source_227 (by decide) ?_
            exact g_lv [0, 2, 3, 4, 5] rfl (ih_k (by omega))
      exact g_lv [0, 1, 2, 3, 4] rfl (lp_1 0 (Nat.zero_le _))
    ·
      refine g_iconst hx dX0_source_20 ?_
      exact g_iret hx (Nat.zero_le _) (Nat.zero_le _) dX0_source_21 (pI_ok (by unfold srcS; rw [if_neg (by omega)]))
