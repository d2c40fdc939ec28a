/-! THE CLASS: verdict, alarm -/
set_option maxRecDepth 100000
section RV
variable {G : gG} {g : gA2} {M M' : gH} {σ σ' : sT} {N : Nat} {lf : Int}
/-- an alarm's verdicts are written: labels 11, 12, 13 of alarm i alone -/
theorem RC.putV (h : RC G g M σ N lf) {i : Nat} (hi : i < N) (hf : Fr (fun z => z = (11, i) ∨ z = (12, i) ∨ z = (13, i)) M M') (e : ∀ p q, ¬ (q = i ∧ (p = 11 ∨ p = 12)) → σ' p q = σ p q) (hv : VD G g M' σ' i) : RC G g M' σ' N lf := by
  obtain ⟨h0, ⟨a1, a2, a3, a4, a5, a6, a7, a8, a9⟩, h3⟩ := h
  have e' : ∀ p, p ≠ 11 → p ≠ 12 → σ' p = σ p := fun p h1 h2 => by funext q; exact e p q (by omega)
  have e0 : cryF g σ' lf = cryF g σ lf := by simp only [cryF, e' 0 (by omega) (by omega)]
  refine ⟨by rw [e0]; exact hf _ _ h0 (by simp), ⟨a1.fr hf (by simp) (by simp), fun j hj => ?_, fun j hj => ?_, ?_, ?_, ?_, ?_, ?_, ?_⟩, h3.fr hf (fun z hz => by rcases hz with hz | hz | hz <;> rw [hz] <;> exact Or.inl (by simp))⟩
  · rw [hf _ _ (a2 j hj) (by simp)]
    simp only [alF, e' 1 (by omega) (by omega), e' 2 (by omega) (by omega), e' 3 (by omega) (by omega), e' 4 (by omega) (by omega), e' 5 (by omega) (by omega), e' 6 (by omega) (by omega), e' 7 (by omega) (by omega), e' 8 (by omega) (by omega), e' 9 (by omega) (by omega), e' 10 (by omega) (by omega)]
  · by_cases ij : j = i
    · subst ij; exact hv
    · exact (a3 j hj).fr hf (by simp [ij]) (by simp [ij]) (by simp [ij]) (e _ _ (by omega)) (e _ _ (by omega))
  · rw [e' 13 (by omega) (by omega)]; exact hf _ _ a4 (by simp)
  · rw [e' 14 (by omega) (by omega)]; exact hf _ _ a5 (by simp)
  · rw [e' 15 (by omega) (by omega)]; exact hf _ _ a6 (by simp)
  · rw [e' 16 (by omega) (by omega)]; exact hf _ _ a7 (by simp)
  · rw [e' 17 (by omega) (by omega)]; exact hf _ _ a8 (by simp)
  · rw [e' 18 (by omega) (by omega)]; exact hf _ _ a9 (by simp)
end RV
/-- a verdict more -/
theorem VD.add {G : gG} {g : gA2} {M' : gH} {σ : sT} {i nv b : Nat} {va lk : Nat → Nat} {vb : Nat → Int} {c : Int} {u : Nat} (hb : b < 10) (hc : c = 0 ∨ c = 1) (h1 : AL G M' (g 11 i) (11, i) (12, i) (nv + 1) (fun j => if j = nv then u else va j)) (h2 : ∀ j, j < nv → M' (va j) = some ((13, i), .inr (3, [.int (iI (lk j : Int)), .int (iI (vb j))]))) (hu : M' u = some ((13, i), .inr (3, [.int (iI (b : Int)), .int (iI c)]))) (h3 : ∀ j, j < nv → lk j < 10 ∧ (vb j = 0 ∨ vb j = 1)) (h4 : ∀ j j', j < nv → j' < nv → lk j = lk j' → j = j') (h5 : σ 11 i = (msk lk vb 1 nv : Int)) (h6 : σ 12 i = (msk lk vb 0 nv : Int)) (hn : ∀ j, j < nv → lk j ≠ b) : VD G g M' (verS σ (i : Int) (b : Int) c) i := by
  refine ⟨nv + 1, (fun j => if j = nv then u else va j), (fun j => if j = nv then b else lk j), (fun j => if j = nv then c else vb j), h1, fun j hj => ?_, fun j hj => ?_, fun j j' hj hj' e => ?_, ?_, ?_⟩
  · by_cases e : j = nv
    · subst e; simp only [if_true]; exact hu
    · simp only [if_neg e]; exact h2 j (by omega)
  · by_cases e : j = nv
    · subst e; simp only [if_true]; exact ⟨hb, hc⟩
    · simp only [if_neg e]; exact h3 j (by omega)
  · by_cases e1 : j = nv
    · by_cases e2 : j' = nv
      · omega
      · simp only [if_pos e1, if_neg e2] at e
        exact absurd e.symm (hn j' (by omega))
    · by_cases e2 : j' = nv
      · simp only [if_neg e1, if_pos e2] at e
        exact absurd e (hn j (by omega))
      · simp only [if_neg e1, if_neg e2] at e
        exact h4 j j' (by omega) (by omega) e
  · have hm : msk (fun j => if j = nv then b else lk j) (fun j => if j = nv then c else vb j) 1 nv = msk lk vb 1 nv := msk_c 1 nv (fun j hj => by simp [show j ≠ nv by omega])
    simp only [msk, if_true, hm]
    unfold verS verM
    rcases hc with rfl | rfl
    · rw [if_neg (by decide), if_neg (by decide), su_n (by omega)]; exact h5
    · rw [if_pos rfl, if_pos rfl, if_pos rfl, Int.toNat_natCast, su_s, h5]; simp
  · have hm : msk (fun j => if j = nv then b else lk j) (fun j => if j = nv then c else vb j) 0 nv = msk lk vb 0 nv := msk_c 0 nv (fun j hj => by simp [show j ≠ nv by omega])
    simp only [msk, if_true, hm]
    unfold verS verM
    rcases hc with rfl | rfl
    · rw [if_pos rfl, if_neg (by decide), if_neg (by decide), Int.toNat_natCast, su_s, h6]; simp
    · rw [if_pos rfl, su_n (by omega), if_neg (by decide)]; exact h6
theorem inj_le {n m : Nat} {f : Nat → Nat} (h : ∀ j, j < n → f j < m) (hi : ∀ j j', j < n → j' < n → f j = f j' → j = j') : n ≤ m := by
  have h1 : ((List.range n).map f).length ≤ (List.range m).length := by
    refine List.Nodup.length_le_of_subset ?_ ?_
    · refine List.pairwise_map.mpr ?_
      refine List.Pairwise.imp_of_mem ?_ List.nodup_range
      intro a b ha hb hne e
      exact hne (hi a b (List.mem_range.mp ha) (List.mem_range.mp hb) e)
    · intro z hz
      obtain ⟨q, hq, rfl⟩ := List.mem_map.mp hz
      exact List.mem_range.mpr (h q (List.mem_range.mp hq))
  simpa using h1
theorem nv_le {n : Nat} {f : Nat → Nat} (h : ∀ j, j < n → f j < 10) (hi : ∀ j j', j < n → j' < n → f j = f j' → j = j') : n ≤ 10 := inj_le h hi
theorem kc_verdictY (l : Launch) (G : gG) (g : gA2) (M : gH) (σ : sT) (N : Nat) (lf : Int) (B : Nat) (hI : Iv σ N B) (hR : RC G g M σ N lf) (i : Nat) (hi : i < N) (b c : Int) (hb2 : -2147483648 ≤ b ∧ b ≤ 2147483647) (hc : c = 0 ∨ c = 1) : GMet l yX0_verdict (ws_ yX0_verdict cX0_verdict 7 (some .int)) ({ frames := 7, cells := 2, slots := 102, locals := 171 } : Room) G [.ref (g 0 0), .int (iI (i : Int)), .int (iI b), .int (iI c)] M (MC G M (g 0 0) (verR σ N (i : Int) b c) (verT σ N (i : Int) b c) N) 2 102 := by
  refine g_start (by decide) (Nat.le_of_ble_eq_true rfl) (fun x hx => ?_)
  have hb0 := hI.1
  have hb := (hI.2.1 i hi).1
  unfold okA at hb
  obtain ⟨nv, va, lk, vb, v1, v2, v3, v4, v5, v6⟩ := hR.vd hi
  have hnv : nv ≤ 10 := nv_le (fun j hj => (v3 j hj).1) v4
  refine g_aload_n hx 0 dX0_verdict_0 rfl rfl ?_
  refine g_iload_n hx 1 dX0_verdict_1 rfl rfl ?_
  refine g_pcallV (rest := []) (na := 1) hx (k_atY l G g M σ N lf B hI hR i (by omega)) hR.o rfl (lw_V q313 q315 qs5 q31 q316) rfl rfl (by decide +kernel) rfl ⟨Nat.le_of_ble_eq_true rfl, Nat.le_of_ble_eq_true rfl⟩ rfl (Nat.le_of_ble_eq_true rfl) dX0_verdict_2 ⟨Nat.zero_le _, Nat.zero_le _⟩ ?_
  refine g_astore (lv' := [(4, .ref (g 10 i)), (0, .ref (g 0 0)), (1, .int (iI (i : Int))), (2, .int (iI b)), (3, .int (iI c))]) hx dX0_verdict_5 (by decide) rfl ?_
  refine g_aload hx 0 dX0_verdict_7 rfl ?_
  refine g_ifnull hx dX0_verdict_9 ?_
  refine g_iload_n hx 3 dX0_verdict_12 rfl rfl ?_
  refine g_iconst hx dX0_verdict_13 ?_
  refine g_bipush hx dX0_verdict_14 (by decide) ?_
  refine g_pcallS (rest := []) (na := 3) hx (k_isIn l G M b 0 9 (by omega) (by omega) (by omega)) (lw_S q145 q146 q31 q147) rfl rfl (by decide +kernel) rfl ⟨Nat.le_of_ble_eq_true rfl, Nat.le_of_ble_eq_true rfl⟩ rfl (Nat.le_of_ble_eq_true rfl) dX0_verdict_16 ⟨Nat.zero_le _, Nat.zero_le _⟩ ?_
  refine g_if_eqP hx 30 dX0_verdict_19 (by decide) (fun c_19 => ?_) (fun c_19 => ?_)
  ·
    refine g_iconst hx dX0_verdict_30 ?_
    have hno : ¬ verOk σ N (i : Int) b := fun h => by have h1 := h.2.1; have h2 := h.2.2.1; rw [Int.toNat_natCast] at h2; omega
    exact g_iret hx (Nat.le_of_ble_eq_true rfl) (Nat.le_of_ble_eq_true rfl) dX0_verdict_31 ⟨congrArg (fun z => some (Value.int (iI z))) (by unfold verR; rw [if_neg hno]), ⟨g, lf, rfl, by unfold verT; rw [if_neg hno]; exact hR⟩, Fr.rf⟩
  ·
    refine g_aload hx 0 dX0_verdict_22 rfl ?_
    refine gq230 (v := .int (iI (σ 10 i))) hx rfl dX0_verdict_24 (hR.al (i := i) (by omega)) rfl ?_
    refine g_if_eq hx 32 (by omega) dX0_verdict_27 (by decide) (fun c_27 => ?_) (fun c_27 => ?_)
    ·
      refine g_iconst hx dX0_verdict_32 ?_
      refine g_istore (lv' := [(5, .int (iI 1)), (4, .ref (g 10 i)), (0, .ref (g 0 0)), (1, .int (iI (i : Int))), (2, .int (iI b)), (3, .int (iI c))]) hx dX0_verdict_33 (by decide) rfl ?_
      refine g_iconst hx dX0_verdict_35 ?_
      refine g_istore (lv' := [(6, .int (iI 0)), (5, .int (iI 1)), (4, .ref (g 10 i)), (0, .ref (g 0 0)), (1, .int (iI (i : Int))), (2, .int (iI b)), (3, .int (iI c))]) hx dX0_verdict_36 (by decide) rfl ?_
      refine g_lv (lv' := [(6, .int (iI ((0 : Nat) : Int))), (5, .int (iI (1 + cn (fun q => vb q = c) 0))), (4, .ref (g 10 i)), (0, .ref (g 0 0)), (1, .int (iI (i : Int))), (2, .int (iI b)), (3, .int (iI c))]) [0, 1, 2, 3, 4, 5, 6] (by simp only [cn]; rfl) ?_
      have lp_1 : ∀ k : Nat, k ≤ nv → (∀ j : Nat, j < k → (lk j : Int) ≠ b) → GW x (gQx x (MC G M (g 0 0) (verR σ N (i : Int) b c) (verT σ N (i : Int) b c) N) 2 102) M 0 0 38 [(6, .int (iI (k : Int))), (5, .int (iI (1 + cn (fun q => vb q = c) k))), (4, .ref (g 10 i)), (0, .ref (g 0 0)), (1, .int (iI (i : Int))), (2, .int (iI b)), (3, .int (iI c))] [] := by
        refine down nv (fun k hk_k ih_k hy_k => ?_)
        have hcn := cn_rg (fun q => vb q = c) k
        refine g_iload hx 0 dX0_verdict_38 rfl ?_
        refine g_aload hx 2 dX0_verdict_40 rfl ?_
        refine gq225 (v := .ref (g 11 i)) hx rfl dX0_verdict_42 (hR.al (i := i) (by omega)) rfl ?_
        refine g_pcallV (rest := [.int (iI (k : Int))]) (na := 0) hx (k_size l G M (g 11 i) (11, i) (12, i) nv va v1) ((al_cell v1).choose_spec.choose_spec) rfl (lw_V q160 q161 q162 q34 q163) rfl rfl (by decide +kernel) rfl ⟨Nat.le_of_ble_eq_true rfl, Nat.le_of_ble_eq_true rfl⟩ rfl (Nat.le_of_ble_eq_true rfl) dX0_verdict_45 ⟨Nat.zero_le _, Nat.zero_le _⟩ ?_
        refine g_icmp_ge hx 109 (by omega) (by omega) dX0_verdict_48 (by decide) (fun c_48 => ?_) (fun c_48 => ?_)
        ·
          refine g_aload hx 2 dX0_verdict_109 rfl ?_
          refine gq225 (v := .ref (g 11 i)) hx rfl dX0_verdict_111 (hR.al (i := i) (by omega)) rfl ?_
          refine g_new hx (13, i) (ci := 3) (C := RX3) (T := TX3) (N := 2) (fs := [.int (iI 0), .int (iI 0)]) rfl in_X3 tyX3_ok q317 q318 q43 dfX3 (Nat.le_of_ble_eq_true rfl) (Nat.le_of_ble_eq_true rfl) dX0_verdict_114 (fun u hu hub => ?_)
          refine g_dup hx dX0_verdict_117 rfl ?_
          refine g_iload_n hx 5 dX0_verdict_118 rfl rfl ?_
          refine g_iload_n hx 6 dX0_verdict_119 rfl rfl ?_
          refine g_callI (rest := [.ref u, .ref (g 11 i)]) (na := 2) hx (k_Verdict_init l G (up M u ((13, i), .inr (3, [.int (iI 0), .int (iI 0)]))) u (13, i) up_s b c hc) (lw_meth q321) q43 q319 q320 rfl rfl rfl (by decide +kernel) rfl ⟨Nat.le_of_ble_eq_true rfl, Nat.le_of_ble_eq_true rfl⟩ rfl (Nat.le_of_ble_eq_true rfl) dX0_verdict_120 ⟨Nat.le_of_ble_eq_true rfl, Nat.le_of_ble_eq_true rfl⟩ (fun v_2 M_3 h_4 => ?_)
          obtain ⟨rfl, rfl⟩ := h_4
          refine g_M up_up ?_
          obtain ⟨M_5, e_6⟩ : ∃ M1 : gH, M1 = up M u ((13, i), .inr (3, [.int (iI b), .int (iI c)])) := ⟨_, rfl⟩
          refine g_M e_6.symm ?_
          have hf1 : Fr (fun z => z = (11, i) ∨ z = (12, i) ∨ z = (13, i)) M M_5 := by rw [e_6]; exact Fr.new hu
          have hu1 : M_5 u = some ((13, i), .inr (3, [.int (iI b), .int (iI c)])) := by rw [e_6]; exact up_s
          have v1a : AL G M_5 (g 11 i) (11, i) (12, i) nv va := v1.fr (P := fun _ => False) (by rw [e_6]; exact Fr.new hu) id id
          have v2a : ∀ j, j < nv → M_5 (va j) = some ((13, i), .inr (3, [.int (iI (lk j : Int)), .int (iI (vb j))])) := fun j hj => by rw [e_6]; exact up_f hu (v2 j hj)
          refine g_callV (rest := []) (na := 1) hx (k_add l G M_5 (g 11 i) (11, i) (12, i) nv va u v1a (by omega) ⟨_, _, _, hu1, by decide, by decide⟩ (fun j hj => ⟨_, _, _, v2a j hj, by decide, by decide⟩)) ((al_cell v1a).choose_spec.choose_spec) rfl (lw_V q256 q257 q258 q34 q259) rfl rfl (by decide +kernel) rfl ⟨Nat.le_of_ble_eq_true rfl, Nat.le_of_ble_eq_true rfl⟩ rfl (Nat.le_of_ble_eq_true rfl) dX0_verdict_123 ⟨Nat.le_of_ble_eq_true rfl, Nat.le_of_ble_eq_true rfl⟩ (fun v_7 M_8 h_9 => ?_)
          obtain ⟨rfl, hA2, hf2⟩ := h_9
          have hf3 : Fr (fun z => z = (11, i) ∨ z = (12, i) ∨ z = (13, i)) M M_8 := hf1.tr (hf2.mono (fun z hz => by rcases hz with hz | hz; (· exact Or.inl hz); (· exact Or.inr (Or.inl hz))))
          have hvd : VD G g M_8 (verS σ (i : Int) (b.toNat : Int) c) i := VD.add (by omega) hc hA2 (fun j hj => hf2 _ _ (v2a j hj) (by simp)) (by rw [show (b.toNat : Int) = b by omega]; exact hf2 _ _ hu1 (by simp)) v3 v4 v5 v6 (fun j hj e => by have := hy_k j (by omega); omega)
          rw [show (b.toNat : Int) = b by omega] at hvd
          have hR2 : RC G g M_8 (verS σ (i : Int) b c) N lf := hR.putV hi hf3 (fun p q hpq => by unfold verS; rw [Int.toNat_natCast]; exact su_n (by split <;> omega)) hvd
          have hF2 : Fr (fun z => z.1 < 50) M M_8 := hf3.mono (fun z hz => by rcases hz with hz | hz | hz <;> rw [hz] <;> simp)
          have hok : verOk σ N (i : Int) b := ⟨by omega, by omega, by rw [Int.toNat_natCast]; omega, fun hz => by rw [Int.toNat_natCast, v5, Int.toNat_natCast] at hz; obtain ⟨q, h1, h2, h3⟩ := (msk_tb lk vb 1 nv _).mp hz; have := hy_k q (by omega); omega, fun hz => by rw [Int.toNat_natCast, v6, Int.toNat_natCast] at hz; obtain ⟨q, h1, h2, h3⟩ := (msk_tb lk vb 0 nv _).mp hz; have := hy_k q (by omega); omega⟩
          have hpop : pop (verM σ (i : Int) b c) = 1 + cn (fun q => vb q = c) k := by
            have hm : (if c = 1 then (σ 11 i).toNat else (σ 12 i).toNat) = msk lk vb c nv := by rcases hc with rfl | rfl; (· rw [if_neg (by decide), v6]; rfl); (· rw [if_pos rfl, v5]; rfl)
            unfold verM; rw [Int.toNat_natCast, hm, pop_or (by omega) (fun hz => by obtain ⟨q, h1, h2, h3⟩ := (msk_tb lk vb c nv _).mp hz; have := hy_k q (by omega); omega), pop_msk lk vb c nv (fun j hj => (v3 j hj).1) v4, show nv = k by omega]; omega
          refine g_pop hx dX0_verdict_126 rfl ?_
          refine g_iload hx 1 dX0_verdict_127 rfl ?_
          refine g_iconst hx dX0_verdict_129 ?_
          refine g_icmp_ge hx 135 (by omega) (by omega) dX0_verdict_130 (by decide) (fun c_130 => ?_) (fun c_130 => ?_)
          ·
            refine g_aload hx 2 dX0_verdict_135 rfl ?_
            refine g_iload_n hx 6 dX0_verdict_137 rfl rfl ?_
            refine g_if_eq hx 145 (by omega) dX0_verdict_138 (by decide) (fun c_138 => ?_) (fun c_138 => ?_)
            ·
              refine g_iconst hx dX0_verdict_145 ?_
              refine pq230 (fs' := alF g (su (verS σ (i : Int) b c) 10 i 2) i) hx rfl dX0_verdict_146 (hR2.al (i := i) (by omega)) (Nat.le_of_ble_eq_true rfl) (by simp [alF, su]) ?_
              obtain ⟨M_10, e_11⟩ : ∃ M1 : gH, M1 = up M_8 (g 10 i) ((10, i), .inr (1, alF g (su (verS σ (i : Int) b c) 10 i 2) i)) := ⟨_, rfl⟩
              refine g_M e_11.symm ?_
              have hR_12 : RC G g M_10 (su (verS σ (i : Int) b c) 10 i 2) N lf := by rw [e_11]; exact RC.putA hR2 hi (fun p q hpq => su_n (by omega))
              have hF_13 : Fr (fun z => z.1 < 50) M M_10 := hF2.tr (by rw [e_11]; exact Fr.ofUp (hR2.al hi) (by simp))
              refine g_iconst hx dX0_verdict_149 ?_
              exact g_iret hx (Nat.le_of_ble_eq_true rfl) (Nat.le_of_ble_eq_true rfl) dX0_verdict_150 ⟨congrArg (fun z => some (Value.int (iI z))) (by unfold verR; rw [if_pos hok, if_neg (by omega)]), ⟨g, lf, rfl, by unfold verT; rw [if_pos hok, if_neg (by omega), if_neg (by omega)]; exact hR_12⟩, hF_13⟩
            ·
              refine g_iconst hx dX0_verdict_141 ?_
              refine g_goto hx 146 dX0_verdict_142 (by decide) ?_
              refine pq230 (fs' := alF g (su (verS σ (i : Int) b c) 10 i 1) i) hx rfl dX0_verdict_146 (hR2.al (i := i) (by omega)) (Nat.le_of_ble_eq_true rfl) (by simp [alF, su]) ?_
              obtain ⟨M_14, e_15⟩ : ∃ M1 : gH, M1 = up M_8 (g 10 i) ((10, i), .inr (1, alF g (su (verS σ (i : Int) b c) 10 i 1) i)) := ⟨_, rfl⟩
              refine g_M e_15.symm ?_
              have hR_16 : RC G g M_14 (su (verS σ (i : Int) b c) 10 i 1) N lf := by rw [e_15]; exact RC.putA hR2 hi (fun p q hpq => su_n (by omega))
              have hF_17 : Fr (fun z => z.1 < 50) M M_14 := hF2.tr (by rw [e_15]; exact Fr.ofUp (hR2.al hi) (by simp))
              refine g_iconst hx dX0_verdict_149 ?_
              exact g_iret hx (Nat.le_of_ble_eq_true rfl) (Nat.le_of_ble_eq_true rfl) dX0_verdict_150 ⟨congrArg (fun z => some (Value.int (iI z))) (by unfold verR; rw [if_pos hok, if_neg (by omega)]), ⟨g, lf, rfl, by unfold verT; rw [if_pos hok, if_neg (by omega), if_pos (by omega)]; exact hR_16⟩, hF_17⟩
          ·
            refine g_iconst hx dX0_verdict_133 ?_
            exact g_iret hx (Nat.le_of_ble_eq_true rfl) (Nat.le_of_ble_eq_true rfl) dX0_verdict_134 ⟨congrArg (fun z => some (Value.int (iI z))) (by unfold verR; rw [if_pos hok, if_pos (by omega)]), ⟨g, lf, rfl, by unfold verT; rw [if_pos hok, if_pos (by omega)]; exact hR2⟩, hF2⟩
        ·
          have hv3 := v3 k (by omega)
          refine g_aload hx 2 dX0_verdict_51 rfl ?_
          refine gq225 (v := .ref (g 11 i)) hx rfl dX0_verdict_53 (hR.al (i := i) (by omega)) rfl ?_
          refine g_iload hx 0 dX0_verdict_56 rfl ?_
          refine g_pcallV (rest := []) (na := 1) hx (k_get l G M (g 11 i) (11, i) (12, i) nv va v1 k (by omega)) ((al_cell v1).choose_spec.choose_spec) rfl (lw_V q164 q165 q166 q34 q167) rfl rfl (by decide +kernel) rfl ⟨Nat.le_of_ble_eq_true rfl, Nat.le_of_ble_eq_true rfl⟩ rfl (Nat.le_of_ble_eq_true rfl) dX0_verdict_58 ⟨Nat.zero_le _, Nat.zero_le _⟩ ?_
          refine g_cast hx (v2 k (by omega)) rfl q317 dX0_verdict_61 ?_
          refine gq324 (v := .int (iI (lk k : Int))) hx rfl dX0_verdict_64 (v2 k (by omega)) rfl ?_
          refine g_iload_n hx 5 dX0_verdict_67 rfl rfl ?_
          refine g_icmp_ne hx 73 (by omega) (by omega) dX0_verdict_68 (by decide) (fun c_68 => ?_) (fun c_68 => ?_)
          ·
            refine g_iload hx 1 dX0_verdict_73 rfl ?_
            refine g_aload hx 2 dX0_verdict_75 rfl ?_
            refine gq225 (v := .ref (g 11 i)) hx rfl dX0_verdict_77 (hR.al (i := i) (by omega)) rfl ?_
            refine g_iload hx 0 dX0_verdict_80 rfl ?_
            refine g_pcallV (rest := [.int (iI (1 + cn (fun q => vb q = c) k))]) (na := 1) hx (k_get l G M (g 11 i) (11, i) (12, i) nv va v1 k (by omega)) ((al_cell v1).choose_spec.choose_spec) rfl (lw_V q164 q165 q166 q34 q167) rfl rfl (by decide +kernel) rfl ⟨Nat.le_of_ble_eq_true rfl, Nat.le_of_ble_eq_true rfl⟩ rfl (Nat.le_of_ble_eq_true rfl) dX0_verdict_82 ⟨Nat.zero_le _, Nat.zero_le _⟩ ?_
            refine g_cast hx (v2 k (by omega)) rfl q317 dX0_verdict_85 ?_
            refine gq326 (v := .int (iI (vb k))) hx rfl dX0_verdict_88 (v2 k (by omega)) rfl ?_
            refine g_iload_n hx 6 dX0_verdict_91 rfl rfl ?_
            refine g_icmp_ne hx 99 (by omega) (by omega) dX0_verdict_92 (by decide) (fun c_92 => ?_) (fun c_92 => ?_)
            ·
              refine g_iconst hx dX0_verdict_99 ?_
              refine g_iadd hx dX0_verdict_100 ?_
              refine g_top (b := (1 + cn (fun q => vb q = c) (k + 1))) (by rw [← cn_n (P := (fun q => vb q = c)) (k := k) (fun h => by omega)]; omega) ?_
              refine g_istore (lv' := [(5, .int (iI (1 + cn (fun q => vb q = c) (k + 1)))), (6, .int (iI (k : Int))), (4, .ref (g 10 i)), (0, .ref (g 0 0)), (1, .int (iI (i : Int))), (2, .int (iI b)), (3, .int (iI c))]) hx dX0_verdict_101 (by decide) rfl ?_
              refine g_iinc (lv' := [(6, .int (iI ((k + 1 : Nat) : Int))), (5, .int (iI (1 + cn (fun q => vb q = c) (k + 1)))), (4, .ref (g 10 i)), (0, .ref (g 0 0)), (1, .int (iI (i : Int))), (2, .int (iI b)), (3, .int (iI c))]) (b := ((k + 1 : Nat) : Int)) hx 1 dX0_verdict_103 rfl (by omega) (by decide) rfl ?_
              refine g_goto hx 38 dX0_verdict_106 (by decide) ?_
              exact g_lv [0, 1, 2, 3, 4, 5, 6] rfl (ih_k (by omega) (fun j hj => by by_cases e : j = k; (· subst e; exact fun h => by omega); (· exact hy_k j (by omega))))
            ·
              refine g_iconst hx dX0_verdict_95 ?_
              refine g_goto hx 100 dX0_verdict_96 (by decide) ?_
              refine g_iadd hx dX0_verdict_100 ?_
              refine g_top (b := (1 + cn (fun q => vb q = c) (k + 1))) (by rw [← cn_y (P := (fun q => vb q = c)) (k := k) (by omega)]; omega) ?_
              refine g_istore (lv' := [(5, .int (iI (1 + cn (fun q => vb q = c) (k + 1)))), (6, .int (iI (k : Int))), (4, .ref (g 10 i)), (0, .ref (g 0 0)), (1, .int (iI (i : Int))), (2, .int (iI b)), (3, .int (iI c))]) hx dX0_verdict_101 (by decide) rfl ?_
              refine g_iinc (lv' := [(6, .int (iI ((k + 1 : Nat) : Int))), (5, .int (iI (1 + cn (fun q => vb q = c) (k + 1)))), (4, .ref (g 10 i)), (0, .ref (g 0 0)), (1, .int (iI (i : Int))), (2, .int (iI b)), (3, .int (iI c))]) (b := ((k + 1 : Nat) : Int)) hx 1 dX0_verdict_103 rfl (by omega) (by decide) rfl ?_
              refine g_goto hx 38 dX0_verdict_106 (by decide) ?_
              exact g_lv [0, 1, 2, 3, 4, 5, 6] rfl (ih_k (by omega) (fun j hj => by by_cases e : j = k; (· subst e; exact fun h => by omega); (· exact hy_k j (by omega))))
          ·
            refine g_iconst hx dX0_verdict_71 ?_
            have hno : ¬ verOk σ N (i : Int) b := fun h => by
                have hj : (lk k : Int) = b := by omega
                obtain ⟨-, -, -, h4, h5⟩ := h
                rw [Int.toNat_natCast] at h4 h5
                rw [v5, Int.toNat_natCast] at h4
                rw [v6, Int.toNat_natCast] at h5
                rcases (v3 k (by omega)).2 with hq | hq
                · exact h5 ((msk_tb lk vb 0 nv _).mpr ⟨k, by omega, hq, by omega⟩)
                · exact h4 ((msk_tb lk vb 1 nv _).mpr ⟨k, by omega, hq, by omega⟩)
            exact g_iret hx (Nat.le_of_ble_eq_true rfl) (Nat.le_of_ble_eq_true rfl) dX0_verdict_72 ⟨congrArg (fun z => some (Value.int (iI z))) (by unfold verR; rw [if_neg hno]), ⟨g, lf, rfl, by unfold verT; rw [if_neg hno]; exact hR⟩, Fr.rf⟩
      exact g_lv [0, 1, 2, 3, 4, 5, 6] rfl (lp_1 0 (Nat.zero_le _) (fun j hj => by omega))
    ·
      refine g_iconst hx dX0_verdict_30 ?_
      have hno : ¬ verOk σ N (i : Int) b := fun h => by have h1 := h.2.1; have h2 := h.2.2.1; rw [Int.toNat_natCast] at h2; omega
      exact g_iret hx (Nat.le_of_ble_eq_true rfl) (Nat.le_of_ble_eq_true rfl) dX0_verdict_31 ⟨congrArg (fun z => some (Value.int (iI z))) (by unfold verR; rw [if_neg hno]), ⟨g, lf, rfl, by unfold verT; rw [if_neg hno]; exact hR⟩, Fr.rf⟩
theorem kc_verdictN (l : Launch) (G : gG) (g : gA2) (M : gH) (σ : sT) (N : Nat) (lf : Int) (B : Nat) (hI : Iv σ N B) (hR : RC G g M σ N lf) (a : Int) (ha : -2147483648 ≤ a ∧ a ≤ 2147483647) (hn : ¬ (0 ≤ a ∧ a < N)) (b c : Int) : GMet l yX0_verdict (ws_ yX0_verdict cX0_verdict 7 (some .int)) ({ frames := 7, cells := 2, slots := 102, locals := 171 } : Room) G [.ref (g 0 0), .int (iI a), .int (iI b), .int (iI c)] M (MC G M (g 0 0) (verR σ N a b c) (verT σ N a b c) N) 2 102 := by
  refine g_start (by decide) (Nat.le_of_ble_eq_true rfl) (fun x hx => ?_)
  have hb0 := hI.1
  refine g_aload_n hx 0 dX0_verdict_0 rfl rfl ?_
  refine g_iload_n hx 1 dX0_verdict_1 rfl rfl ?_
  refine g_pcallV (rest := []) (na := 1) hx (k_atN l G g M σ N lf B hI hR a (by omega) (by omega)) hR.o rfl (lw_V q313 q315 qs5 q31 q316) rfl rfl (by decide +kernel) rfl ⟨Nat.le_of_ble_eq_true rfl, Nat.le_of_ble_eq_true rfl⟩ rfl (Nat.le_of_ble_eq_true rfl) dX0_verdict_2 ⟨Nat.zero_le _, Nat.zero_le _⟩ ?_
  refine g_astoreN (lv' := [(4, .null), (0, .ref (g 0 0)), (1, .int (iI a)), (2, .int (iI b)), (3, .int (iI c))]) hx dX0_verdict_5 (by decide) rfl ?_
  refine g_aloadN hx 0 dX0_verdict_7 rfl ?_
  refine g_ifnullN hx 30 dX0_verdict_9 (by decide) ?_
  refine g_iconst hx dX0_verdict_30 ?_
  exact g_iret hx (Nat.zero_le _) (Nat.zero_le _) dX0_verdict_31 ⟨congrArg (fun z => some (Value.int (iI z))) (by unfold verR; rw [if_neg (fun h => hn h.1)]), ⟨g, lf, rfl, by unfold verT; rw [if_neg (fun h => hn h.1)]; exact hR⟩, Fr.rf⟩
