/-! THE CLASS: makes -/
set_option maxRecDepth 100000
theorem RC.sc {G : gG} {g : gA2} {M M' : gH} {σ : sT} {N : Nat} {lf : Int} {P : gL → Prop} (h : RC G g M σ N lf) (hf : Fr P M M') (hp : ∀ z, P z → 20 ≤ z.1) (hs : SC G g M') : RC G g M' σ N lf :=
  ⟨hf _ _ h.1 (fun z => by have := hp _ z; simp at this), h.2.1.fr hf (fun z hz => Or.inr (hp z hz)), hs⟩
theorem SC.l20 {G : gG} {g : gA2} {M M' : gH} (h : SC G g M) (hf : Fr (fun z => z = (20, 0) ∨ z = (20, 1)) M M') (hs : SL G M' (g 20 0) (20, 0) (20, 1)) : SC G g M' := by
  obtain ⟨a1, ⟨cf, a2⟩, a3, a4, a5, a6⟩ := h
  exact ⟨hs, ⟨cf, hf _ _ a2 (by simp)⟩, a3.fr hf (by simp) (by simp), a4.fr hf (by simp) (by simp), hf _ _ a5 (by simp), fun i hi => by obtain ⟨row, hr⟩ := a6 i hi; exact ⟨row, hf _ _ hr (by simp)⟩⟩
theorem RC.l20 {G : gG} {g : gA2} {M M' : gH} {σ : sT} {N : Nat} {lf : Int} (h : RC G g M σ N lf) (hf : Fr (fun z => z = (20, 0) ∨ z = (20, 1)) M M') (hs : SL G M' (g 20 0) (20, 0) (20, 1)) : RC G g M' σ N lf :=
  h.sc hf (fun z hz => by rcases hz with h | h <;> rw [h] <;> simp) (h.2.2.l20 hf hs)
/-- the labels' array is written -/
theorem RC.cf {G : gG} {g : gA2} {M : gH} {σ : sT} {N : Nat} {lf : Int} (h : RC G g M σ N lf) (f : Nat → Int) : RC G g (up M (g 21 0) ((21, 0), aI G 200 f)) σ N lf := by
  obtain ⟨cf, hc⟩ := h.2.2.2.1
  have hf : Fr (fun z => z = (21, 0)) M (up M (g 21 0) ((21, 0), aI G 200 f)) := Fr.ofUp hc rfl
  refine h.sc hf (fun z hz => by rw [hz]; simp) ?_
  obtain ⟨a1, ⟨cf, a2⟩, a3, a4, a5, a6⟩ := h.2.2
  exact ⟨a1.fr hf (by simp) (by simp), ⟨f, up_s⟩, a3.fr hf (by simp) (by simp), a4.fr hf (by simp) (by simp), hf _ _ a5 (by simp), fun i hi => by obtain ⟨row, hr⟩ := a6 i hi; exact ⟨row, hf _ _ hr (by simp)⟩⟩
theorem RC.c21 {G : gG} {g : gA2} {M : gH} {σ : sT} {N : Nat} {lf : Int} (h : RC G g M σ N lf) : ∃ f, M (g 21 0) = some ((21, 0), aI G 200 f) := h.2.2.2.1
/-- labels of what is made anew -/
def PM : gL → Prop := fun z => 20 ≤ z.1 ∧ z.1 < 50
/-- the cases, made: their list in order, each by its address -/
def CSR (G : gG) (g : gA2) (M : gH) (σ : sT) (N : Nat) (cad : Nat → Nat) : Prop := (∃ cf : Nat → Int, M (g 21 0) = some ((21, 0), aI G 200 cf) ∧ ∀ i, i < N → cf i = lab σ N i) ∧ AL G M (g 20 0) (20, 0) (20, 1) (ncs σ N) (fun j => cad (ordr σ N j)) ∧ (∀ k, k < N → isC σ N k → CSE G g M σ N (cad k) k) ∧ IsL σ N (lab σ N)
/-- how many alarms are in the first k cases -/
noncomputable def acc (σ : sT) (N k : Nat) : Nat := (cn (fun i => 0 ≤ lab σ N i ∧ lab σ N i < (k : Int)) N).toNat
theorem acc_le (σ : sT) (N k : Nat) : acc σ N k ≤ N := by
  have := cn_rg (fun i => 0 ≤ lab σ N i ∧ lab σ N i < (k : Int)) N
  unfold acc
  omega
theorem acc_s (σ : sT) (N k : Nat) : acc σ N (k + 1) = acc σ N k + csz σ N k := by
  have h := cn_or (P'' := fun i => 0 ≤ lab σ N i ∧ lab σ N i < ((k + 1 : Nat) : Int)) (P := fun i => 0 ≤ lab σ N i ∧ lab σ N i < (k : Int)) (P' := inC σ N k) N (fun i _ => by unfold inC; omega) (fun i _ => by unfold inC; omega)
  have h1 := cn_rg (fun i => 0 ≤ lab σ N i ∧ lab σ N i < (k : Int)) N
  have h2 := cn_rg (inC σ N k) N
  unfold acc csz
  omega
theorem acc_m (σ : sT) (N k : Nat) : acc σ N k ≤ acc σ N (k + 1) := by rw [acc_s]; omega
theorem srt_ord {σ : sT} {N i : Nat} (h : i = ncs σ N ∨ ncs σ N = 0) (j : Nat) (hj : j < ncs σ N) : srt (csc σ N) (nth (isC σ N) N) i j = ordr σ N j := by
  rcases h with h | h
  · rw [h]; rfl
  · omega
theorem CSE.obj {G : gG} {g : gA2} {M : gH} {σ : sT} {N a k : Nat} (h : CSE G g M σ N a k) : OBJ M a := by
  obtain ⟨v, me, h1, -⟩ := h
  exact ⟨_, _, _, h1, by decide, by decide⟩
theorem kc_makes (l : Launch) (G : gG) (g : gA2) (M : gH) (σ : sT) (N : Nat) (lf : Int) (B : Nat) (hI : Iv σ N B) (hR : RC G g M σ N lf) : GMet l yX0_makes (ws_ yX0_makes cX0_makes 5 none) ({ frames := 8, cells := 256, slots := 13184, locals := 195 } : Room) G [.ref (g 0 0)] M (fun v M' => v = none ∧ RC G g M' σ N lf ∧ (∃ cad, CSR G g M' σ N cad) ∧ Fr PM M M') 256 13184 := by
  refine g_start (by decide) (Nat.le_of_ble_eq_true rfl) (fun x hx => ?_)
  have hb0 := hI.1
  refine g_aload_n hx 0 dX0_makes_0 rfl rfl ?_
  refine gq94 (v := .ref (g 20 0)) hx rfl dX0_makes_1 hR.o rfl ?_
  obtain ⟨n0, f0, hA0⟩ := hR.2.2.1
  refine g_callV (rest := []) (na := 0) hx (k_clear l G M (g 20 0) (20, 0) (20, 1) n0 f0 hA0) ((al_cell hA0).choose_spec.choose_spec) rfl (lw_V q375 q376 q377 q34 q378) rfl rfl (by decide +kernel) rfl ⟨Nat.le_of_ble_eq_true rfl, Nat.le_of_ble_eq_true rfl⟩ rfl (Nat.le_of_ble_eq_true rfl) dX0_makes_4 ⟨Nat.zero_le _, Nat.zero_le _⟩ (fun v_1 M_2 h_3 => ?_)
  obtain ⟨rfl, hA1, hF1⟩ := h_3
  have hR1 : RC G g M_2 σ N lf := hR.l20 hF1 ⟨_, _, hA1⟩
  obtain ⟨cf0, hcf0⟩ := hR1.c21
  have hRc : ∀ cf : Nat → Int, RC G g (up M_2 (g 21 0) ((21, 0), aI G 200 cf)) σ N lf := fun cf => hR1.cf cf
  refine g_M (up_e hcf0).symm ?_
  refine g_iconst hx dX0_makes_7 ?_
  refine g_istore_n (lv' := [(1, .int (iI 0)), (0, .ref (g 0 0))]) hx dX0_makes_8 rfl (by decide) rfl ?_
  have lp1 : ∀ k : Nat, k ≤ N → ∀ cf : Nat → Int, (∀ i, i < k → cf i = @ite Int (wtg σ i) (Classical.propDecidable _) (i : Int) (-1)) → GW x (gQx x (fun v M' => v = none ∧ RC G g M' σ N lf ∧ (∃ cad, CSR G g M' σ N cad) ∧ Fr PM M M') 256 13184) (up M_2 (g 21 0) ((21, 0), aI G 200 cf)) 0 0 9 [(1, .int (iI (k : Int))), (0, .ref (g 0 0))] [] := by
    refine down N (fun k hk ih cf hcf => ?_)
    refine g_iload_n hx 0 dX0_makes_9 rfl rfl ?_
    refine g_aload_n hx 1 dX0_makes_10 rfl rfl ?_
    refine gq85 (v := .ref (g 1 0)) hx rfl dX0_makes_11 ((hRc cf).o) rfl ?_
    refine g_pcallV (rest := [.int (iI (k : Int))]) (na := 0) hx (k_size l G (up M_2 (g 21 0) ((21, 0), aI G 200 cf)) (g 1 0) (1, 0) (1, 1) N (g 10) ((hRc cf).ls)) ((al_cell ((hRc cf).ls)).choose_spec.choose_spec) rfl (lw_V q160 q161 q162 q34 q163) rfl rfl (by decide +kernel) rfl ⟨Nat.le_of_ble_eq_true rfl, Nat.le_of_ble_eq_true rfl⟩ rfl (Nat.le_of_ble_eq_true rfl) dX0_makes_14 ⟨Nat.zero_le _, Nat.zero_le _⟩ ?_
    refine g_icmp_ge hx 54 (by omega) (by omega) dX0_makes_17 (by decide) (fun c_17 => ?_) (fun c_17 => ?_)
    ·
      refine g_iconst hx dX0_makes_54 ?_
      refine g_istore_n (lv' := [(1, .int (iI 1)), (0, .ref (g 0 0))]) hx dX0_makes_55 rfl (by decide) rfl ?_
      have hLI0 : LI σ N cf := LI.start (fun i hi => hcf i (by omega))
      have lpw : ∀ w0 : Nat, ∀ cf : Nat → Int, LI σ N cf → wt cf N = w0 → GW x (gQx x (fun v M' => v = none ∧ RC G g M' σ N lf ∧ (∃ cad, CSR G g M' σ N cad) ∧ Fr PM M M') 256 13184) (up M_2 (g 21 0) ((21, 0), aI G 200 cf)) 0 0 56 [(1, .int (iI 1)), (0, .ref (g 0 0))] [] := by
        refine upw (P := fun w0 => ∀ cf : Nat → Int, LI σ N cf → wt cf N = w0 → GW x (gQx x (fun v M' => v = none ∧ RC G g M' σ N lf ∧ (∃ cad, CSR G g M' σ N cad) ∧ Fr PM M M') 256 13184) (up M_2 (g 21 0) ((21, 0), aI G 200 cf)) 0 0 56 [(1, .int (iI 1)), (0, .ref (g 0 0))] []) (fun w0 ihw cf hLI hwt => ?_)
        refine g_iload_n hx 0 dX0_makes_56 rfl rfl ?_
        refine g_if_eq hx 205 (by omega) dX0_makes_57 (by decide) (fun c_57 => ?_) (fun c_57 => ?_)
        ·
          exact absurd c_57 (by decide)
        ·
          refine g_iconst hx dX0_makes_60 ?_
          refine g_istore_n (lv' := [(1, .int (iI 0)), (0, .ref (g 0 0))]) hx dX0_makes_61 rfl (by decide) rfl ?_
          refine g_iconst hx dX0_makes_62 ?_
          refine g_istore_n (lv' := [(2, .int (iI 0)), (1, .int (iI 0)), (0, .ref (g 0 0))]) hx dX0_makes_63 rfl (by decide) rfl ?_
          have lpA : ∀ a : Nat, a ≤ N → ∀ (cf : Nat → Int) (mo : Int), LI σ N cf → (mo = 0 ∨ mo = 1) → (mo = 1 → wt cf N < w0) → (mo = 0 → wt cf N ≤ w0) → (mo = 0 → ∀ p q : Nat, p < a → p < q → q < N → okp σ cf p q) → GW x (gQx x (fun v M' => v = none ∧ RC G g M' σ N lf ∧ (∃ cad, CSR G g M' σ N cad) ∧ Fr PM M M') 256 13184) (up M_2 (g 21 0) ((21, 0), aI G 200 cf)) 0 0 64 [(2, .int (iI (a : Int))), (1, .int (iI mo)), (0, .ref (g 0 0))] [] := by
            refine down N (fun a ha ihA cf mo hLI hmo hw1 hw0 hokA => ?_)
            refine g_iload_n hx 0 dX0_makes_64 rfl rfl ?_
            refine g_aload_n hx 2 dX0_makes_65 rfl rfl ?_
            refine gq85 (v := .ref (g 1 0)) hx rfl dX0_makes_66 ((hRc cf).o) rfl ?_
            refine g_pcallV (rest := [.int (iI (a : Int))]) (na := 0) hx (k_size l G (up M_2 (g 21 0) ((21, 0), aI G 200 cf)) (g 1 0) (1, 0) (1, 1) N (g 10) ((hRc cf).ls)) ((al_cell ((hRc cf).ls)).choose_spec.choose_spec) rfl (lw_V q160 q161 q162 q34 q163) rfl rfl (by decide +kernel) rfl ⟨Nat.le_of_ble_eq_true rfl, Nat.le_of_ble_eq_true rfl⟩ rfl (Nat.le_of_ble_eq_true rfl) dX0_makes_69 ⟨Nat.zero_le _, Nat.zero_le _⟩ ?_
            refine g_icmp_ge hx 202 (by omega) (by omega) dX0_makes_72 (by decide) (fun c_72 => ?_) (fun c_72 => ?_)
            ·
              have hall : mo = 0 → ∀ p q : Nat, p < q → q < N → okp σ cf p q := fun hz p q h1 h2 => hokA hz p q (by omega) h1 h2
              refine g_goto hx 56 dX0_makes_202 (by decide) ?_
              rcases hmo with rfl | rfl
              ·
                refine g_iload_n hx 1 dX0_makes_56 rfl rfl ?_
                refine g_if_eq hx 205 (by omega) dX0_makes_57 (by decide) (fun c_57 => ?_) (fun c_57 => ?_)
                ·
                  refine g_iconst hx dX0_makes_205 ?_
                  refine g_istore_n (lv' := [(2, .int (iI 0)), (1, .int (iI 0)), (0, .ref (g 0 0))]) hx dX0_makes_206 rfl (by decide) rfl ?_
                  have hIs : IsL σ N cf := IsL.of hLI (hall rfl)
                  have hL : ∀ i, i < N → cf i = lab σ N i := lab_eq hIs
                  have hIl : IsL σ N (lab σ N) := lab_is hIs
                  have hFm : Fr PM M (up M_2 (g 21 0) ((21, 0), aI G 200 cf)) := by rw [show ((up M_2 (g 21 0) ((21, 0), aI G 200 cf))) = up M_2 (g 21 0) ((21, 0), aI G 200 cf) from rfl]; exact (hF1.mono (fun z hz => by rcases hz with h | h <;> rw [h] <;> (unfold PM; simp))).tr (Fr.ofUp hcf0 (by unfold PM; simp))
                  have lp2 : ∀ k : Nat, k ≤ N → ∀ (M2 : gH) (cad nm : Nat → Nat), RC G g M2 σ N lf → M2 (g 21 0) = some ((21, 0), aI G 200 cf) → AL G M2 (g 20 0) (20, 0) (20, 1) (cn (isC σ N) k).toNat (fun j => cad (nm j)) → lists (isC σ N) k nm → (∀ q, q < k → isC σ N q → CSE G g M2 σ N (cad q) q) → Fr PM M M2 → GW x (gQx x (fun v M' => v = none ∧ RC G g M' σ N lf ∧ (∃ cad, CSR G g M' σ N cad) ∧ Fr PM M M') 256 13184) M2 (3 * k + acc σ N k) (106 * k + 100 * acc σ N k) 207 [(2, .int (iI (k : Int))), (0, .ref (g 0 0))] [] := by
                    refine down N (fun k hk ih2 M2 cad nm hR2 h21 hA2 hl2 hcs hf2 => ?_)
                    have hcn := cn_rg (isC σ N) k; have hac := acc_le σ N k; have hac1 := acc_le σ N (k + 1); have hacs := acc_s σ N k; have hcfr : k < N → -1 ≤ cf k ∧ cf k ≤ k := fun h => by rw [hL k h]; exact hIl.1.rg h
                    refine g_iload_n hx 0 dX0_makes_207 rfl rfl ?_
                    refine g_aload_n hx 1 dX0_makes_208 rfl rfl ?_
                    refine gq85 (v := .ref (g 1 0)) hx rfl dX0_makes_209 hR2.o rfl ?_
                    refine g_pcallV (rest := [.int (iI (k : Int))]) (na := 0) hx (k_size l G M2 (g 1 0) (1, 0) (1, 1) N (g 10) hR2.ls) ((al_cell hR2.ls).choose_spec.choose_spec) rfl (lw_V q160 q161 q162 q34 q163) rfl rfl (by decide +kernel) rfl ⟨Nat.le_of_ble_eq_true rfl, Nat.le_of_ble_eq_true rfl⟩ rfl (Nat.le_of_ble_eq_true rfl) dX0_makes_212 ⟨by show _ ≤ 256; omega, by show _ ≤ 13184; omega⟩ ?_
                    refine g_icmp_ge hx 247 (by omega) (by omega) dX0_makes_215 (by decide) (fun c_215 => ?_) (fun c_215 => ?_)
                    ·
                      refine g_iconst hx dX0_makes_247 ?_
                      refine g_istore_n (lv' := [(2, .int (iI 1)), (0, .ref (g 0 0))]) hx dX0_makes_248 rfl (by decide) rfl ?_
                      have hNk : k = N := by omega
                      rw [hNk] at hA2 hl2 hcs
                      have hm := ncs_c σ N
                      have hA3 : AL G M2 (g 20 0) (20, 0) (20, 1) (ncs σ N) (fun j => cad (nth (isC σ N) N j)) := (show AL G M2 (g 20 0) (20, 0) (20, 1) (ncs σ N) (fun j => cad (nm j)) from hA2).cg (fun j hj => by rw [lists_u hl2 (nth_l (isC σ N) N) (j := j) (by omega)])
                      have h5 : ∀ q, q < N → 1 ≤ σ 5 q ∧ σ 5 q ≤ 100 := fun q hq => by have := (hI.2.1 q hq).1; unfold okA at this; omega
                      have lp3 : ∀ i : Nat, i ≤ max (ncs σ N) 1 → 1 ≤ i → ∀ (M3 : gH) (f : Nat → Nat), RC G g M3 σ N lf → M3 (g 21 0) = some ((21, 0), aI G 200 cf) → AL G M3 (g 20 0) (20, 0) (20, 1) (ncs σ N) f → (∀ j, j < ncs σ N → f j = cad (srt (csc σ N) (nth (isC σ N) N) i j)) → (∀ q, q < N → isC σ N q → CSE G g M3 σ N (cad q) q) → Fr PM M M3 → GW x (gQx x (fun v M' => v = none ∧ RC G g M' σ N lf ∧ (∃ cad, CSR G g M' σ N cad) ∧ Fr PM M M') 256 13184) M3 256 13184 249 [(2, .int (iI (i : Int))), (0, .ref (g 0 0))] [] := by
                        refine down (max (ncs σ N) 1) (fun i hi ih3 hi1 M3 f hR3 h213 hA3 hf hcs3 hf3 => ?_)
                        refine g_iload_n hx 0 dX0_makes_249 rfl rfl ?_
                        refine g_aload_n hx 1 dX0_makes_250 rfl rfl ?_
                        refine gq94 (v := .ref (g 20 0)) hx rfl dX0_makes_251 hR3.o rfl ?_
                        refine g_pcallV (rest := [.int (iI (i : Int))]) (na := 0) hx (k_size l G M3 (g 20 0) (20, 0) (20, 1) (ncs σ N) f hA3) ((al_cell hA3).choose_spec.choose_spec) rfl (lw_V q160 q161 q162 q34 q163) rfl rfl (by decide +kernel) rfl ⟨Nat.le_of_ble_eq_true rfl, Nat.le_of_ble_eq_true rfl⟩ rfl (Nat.le_of_ble_eq_true rfl) dX0_makes_254 ⟨Nat.le_refl _, Nat.le_refl _⟩ ?_
                        refine g_icmp_ge hx 351 (by omega) (by omega) dX0_makes_257 (by decide) (fun c_257 => ?_) (fun c_257 => ?_)
                        ·
                          exact g_vret hx (Nat.le_refl _) (Nat.le_refl _) dX0_makes_351 ⟨rfl, hR3, ⟨cad, ⟨cf, h213, hL⟩, hA3.cg (fun j hj => by rw [hf j hj, srt_ord (by omega) j hj]), hcs3, hIl⟩, hf3⟩
                        ·
                          refine g_aload_n hx 1 dX0_makes_260 rfl rfl ?_
                          refine gq94 (v := .ref (g 20 0)) hx rfl dX0_makes_261 hR3.o rfl ?_
                          refine g_iload_n hx 0 dX0_makes_264 rfl rfl ?_
                          refine g_pcallV (rest := []) (na := 1) hx (k_get l G M3 (g 20 0) (20, 0) (20, 1) (ncs σ N) f hA3 i (by omega)) ((al_cell hA3).choose_spec.choose_spec) rfl (lw_V q164 q165 q166 q34 q167) rfl rfl (by decide +kernel) rfl ⟨Nat.le_of_ble_eq_true rfl, Nat.le_of_ble_eq_true rfl⟩ rfl (Nat.le_of_ble_eq_true rfl) dX0_makes_265 ⟨Nat.le_refl _, Nat.le_refl _⟩ ?_
                          obtain ⟨c0, hc0⟩ : ∃ c0, c0 = srt (csc σ N) (nth (isC σ N) N) i i := ⟨_, rfl⟩
                          have hok0 : ∀ j, j < ncs σ N → srt (csc σ N) (nth (isC σ N) N) i j < N ∧ isC σ N (srt (csc σ N) (nth (isC σ N) N) i j) := srt_all (P := fun z => z < N ∧ isC σ N z) (fun j hj => by have h := nth_l (isC σ N) N j (by omega); exact ⟨h.1, h.2.1⟩) i (by omega)
                          have hc1 := hok0 i (by omega)
                          have hfi := hf i (by omega)
                          rw [← hc0] at hc1 hfi
                          refine g_st (st' := [.ref (cad c0)]) (by rw [hfi]) ?_
                          obtain ⟨v0, me0, hcell0, -, -⟩ := hcs3 c0 hc1.1 hc1.2
                          refine g_cast hx hcell0 rfl q391 dX0_makes_268 ?_
                          refine g_astore_n (lv' := [(3, .ref (cad c0)), (2, .int (iI (i : Int))), (0, .ref (g 0 0))]) hx dX0_makes_271 rfl (by decide) rfl ?_
                          refine g_iload_n hx 1 dX0_makes_272 rfl rfl ?_
                          refine g_istore (lv' := [(4, .int (iI (i : Int))), (3, .ref (cad c0)), (2, .int (iI (i : Int))), (0, .ref (g 0 0))]) hx dX0_makes_273 (by decide) rfl ?_
                          have lp4 : ∀ p : Nat, p ≤ i → ∀ (M4 : gH) (f4 : Nat → Nat), RC G g M4 σ N lf → M4 (g 21 0) = some ((21, 0), aI G 200 cf) → AL G M4 (g 20 0) (20, 0) (20, 1) (ncs σ N) f4 → (∀ j, j < ncs σ N → f4 j = cad (shf (srt (csc σ N) (nth (isC σ N) N) i) p i j)) → (∀ q, p ≤ q → q < i → csc σ N (srt (csc σ N) (nth (isC σ N) N) i q) < csc σ N c0) → (∀ q, q < N → isC σ N q → CSE G g M4 σ N (cad q) q) → Fr PM M M4 → GW x (gQx x (fun v M' => v = none ∧ RC G g M' σ N lf ∧ (∃ cad, CSR G g M' σ N cad) ∧ Fr PM M M') 256 13184) M4 256 13184 275 [(4, .int (iI (p : Int))), (3, .ref (cad c0)), (2, .int (iI (i : Int))), (0, .ref (g 0 0))] [] := by
                            refine upw (P := fun p => p ≤ i → ∀ (M4 : gH) (f4 : Nat → Nat), RC G g M4 σ N lf → M4 (g 21 0) = some ((21, 0), aI G 200 cf) → AL G M4 (g 20 0) (20, 0) (20, 1) (ncs σ N) f4 → (∀ j, j < ncs σ N → f4 j = cad (shf (srt (csc σ N) (nth (isC σ N) N) i) p i j)) → (∀ q, p ≤ q → q < i → csc σ N (srt (csc σ N) (nth (isC σ N) N) i q) < csc σ N c0) → (∀ q, q < N → isC σ N q → CSE G g M4 σ N (cad q) q) → Fr PM M M4 → GW x (gQx x (fun v M' => v = none ∧ RC G g M' σ N lf ∧ (∃ cad, CSR G g M' σ N cad) ∧ Fr PM M M') 256 13184) M4 256 13184 275 [(4, .int (iI (p : Int))), (3, .ref (cad c0)), (2, .int (iI (i : Int))), (0, .ref (g 0 0))] []) (fun p ih4 hp M4 f4 hR4 h214 hA4 hf4 hlt4 hcs4 hfr4 => ?_)
                            obtain ⟨v0, me0, hcell0, -, -⟩ := hcs4 c0 hc1.1 hc1.2
                            have hsc0 := csc_rg (k := c0) h5
                            refine g_iload hx 0 dX0_makes_275 rfl ?_
                            refine g_if_le hx 334 (by omega) dX0_makes_277 (by decide) (fun c_277 => ?_) (fun c_277 => ?_)
                            ·
                              refine g_aload_n hx 3 dX0_makes_334 rfl rfl ?_
                              refine gq94 (v := .ref (g 20 0)) hx rfl dX0_makes_335 hR4.o rfl ?_
                              refine g_iload hx 0 dX0_makes_338 rfl ?_
                              refine g_aload_n hx 1 dX0_makes_340 rfl rfl ?_
                              refine g_callV (rest := []) (na := 2) hx (k_set l G M4 (g 20 0) (20, 0) (20, 1) (ncs σ N) f4 hA4 p (cad c0) (by omega) ⟨_, _, _, hcell0, by decide, by decide⟩) ((al_cell hA4).choose_spec.choose_spec) rfl (lw_V q411 q412 q413 q34 q414) rfl rfl (by decide +kernel) rfl ⟨Nat.le_of_ble_eq_true rfl, Nat.le_of_ble_eq_true rfl⟩ rfl (Nat.le_of_ble_eq_true rfl) dX0_makes_341 ⟨Nat.le_refl _, Nat.le_refl _⟩ (fun v_4 M_5 h_6 => ?_)
                              obtain ⟨⟨za, rfl⟩, hA5, hf5⟩ := h_6
                              have hf5 : Fr (fun z => z = (20, 0) ∨ z = (20, 1)) M4 M_5 := hf5.mono (fun z hz => Or.inr hz)
                              have hR5 : RC G g M_5 σ N lf := hR4.l20 hf5 ⟨_, _, hA5⟩
                              have hcs5 : ∀ q, q < N → isC σ N q → CSE G g M_5 σ N (cad q) q := fun q hq hc => (hcs4 q hq hc).fr hf5 (by simp) (by simp) (by simp)
                              have hfr5 : Fr PM M M_5 := hfr4.tr (hf5.mono (fun z hz => by rcases hz with h | h <;> rw [h] <;> (unfold PM; simp)))
                              have h215 : M_5 (g 21 0) = some ((21, 0), aI G 200 cf) := hf5 _ _ h214 (by simp)
                              have hins : insp (csc σ N) (srt (csc σ N) (nth (isC σ N) N) i) c0 i = p := (insp_down hp hlt4).trans (insp_stop (s := csc σ N) (o := srt (csc σ N) (nth (isC σ N) N) i) (c := c0) (p := p) (Or.inl (by omega)))
                              have hf6 : ∀ j, j < ncs σ N → (fun q => if q = p then cad c0 else f4 q) j = cad (srt (csc σ N) (nth (isC σ N) N) (i + 1) j) := fun j hj => by
                                show _ = cad (insO (csc σ N) (srt (csc σ N) (nth (isC σ N) N) i) i (srt (csc σ N) (nth (isC σ N) N) i i) j)
                                rw [← hc0, ← shf_e hins.symm hp]
                                by_cases e : j = p
                                · simp only [if_pos e]
                                · simp only [if_neg e]; exact hf4 j hj
                              refine g_pop hx dX0_makes_344 rfl ?_
                              refine g_iinc (lv' := [(2, .int (iI ((i + 1 : Nat) : Int))), (4, .int (iI (p : Int))), (3, .ref (cad c0)), (0, .ref (g 0 0))]) (b := ((i + 1 : Nat) : Int)) hx 2 dX0_makes_345 rfl (by omega) (by decide) rfl ?_
                              refine g_goto hx 249 dX0_makes_348 (by decide) ?_
                              exact g_lv [0, 3] rfl (ih3 (by omega) (by omega) M_5 _ hR5 h215 hA5 hf6 hcs5 hfr5)
                            ·
                              obtain ⟨p1, rfl⟩ : ∃ p1, p = p1 + 1 := ⟨p - 1, by omega⟩
                              have hfp := hf4 p1 (by omega)
                              have hsh : shf (srt (csc σ N) (nth (isC σ N) N) i) (p1 + 1) i p1 = srt (csc σ N) (nth (isC σ N) N) i p1 := by unfold shf; rw [if_neg (by omega)]
                              rw [hsh] at hfp
                              obtain ⟨c1, hc1e⟩ : ∃ c1, c1 = srt (csc σ N) (nth (isC σ N) N) i p1 := ⟨_, rfl⟩
                              have hcc := hok0 p1 (by omega)
                              rw [← hc1e] at hfp hcc
                              obtain ⟨v1, me1, hcell1, -, -⟩ := hcs4 c1 hcc.1 hcc.2
                              rw [← hfp] at hcell1
                              have hsc1 := csc_rg (k := c1) h5
                              refine g_aload_n hx 3 dX0_makes_280 rfl rfl ?_
                              refine gq94 (v := .ref (g 20 0)) hx rfl dX0_makes_281 hR4.o rfl ?_
                              refine g_iload hx 0 dX0_makes_284 rfl ?_
                              refine g_iconst hx dX0_makes_286 ?_
                              refine g_isub hx dX0_makes_287 ?_
                              refine g_top (b := (p1 : Int)) (by omega) ?_
                              refine g_pcallV (rest := []) (na := 1) hx (k_get l G M4 (g 20 0) (20, 0) (20, 1) (ncs σ N) f4 hA4 p1 (by omega)) ((al_cell hA4).choose_spec.choose_spec) rfl (lw_V q164 q165 q166 q34 q167) rfl rfl (by decide +kernel) rfl ⟨Nat.le_of_ble_eq_true rfl, Nat.le_of_ble_eq_true rfl⟩ rfl (Nat.le_of_ble_eq_true rfl) dX0_makes_288 ⟨Nat.le_refl _, Nat.le_refl _⟩ ?_
                              refine g_cast hx hcell1 rfl q391 dX0_makes_291 ?_
                              refine gq401 (v := .int (iI (csc σ N c1))) hx rfl dX0_makes_294 hcell1 rfl ?_
                              refine g_aload_n hx 1 dX0_makes_297 rfl rfl ?_
                              refine gq401 (v := .int (iI (csc σ N c0))) hx rfl dX0_makes_298 hcell0 rfl ?_
                              refine g_icmp_ge hx 334 (by omega) (by omega) dX0_makes_301 (by decide) (fun c_301 => ?_) (fun c_301 => ?_)
                              ·
                                refine g_aload_n hx 3 dX0_makes_334 rfl rfl ?_
                                refine gq94 (v := .ref (g 20 0)) hx rfl dX0_makes_335 hR4.o rfl ?_
                                refine g_iload hx 0 dX0_makes_338 rfl ?_
                                refine g_aload_n hx 1 dX0_makes_340 rfl rfl ?_
                                refine g_callV (rest := []) (na := 2) hx (k_set l G M4 (g 20 0) (20, 0) (20, 1) (ncs σ N) f4 hA4 (p1 + 1) (cad c0) (by omega) ⟨_, _, _, hcell0, by decide, by decide⟩) ((al_cell hA4).choose_spec.choose_spec) rfl (lw_V q411 q412 q413 q34 q414) rfl rfl (by decide +kernel) rfl ⟨Nat.le_of_ble_eq_true rfl, Nat.le_of_ble_eq_true rfl⟩ rfl (Nat.le_of_ble_eq_true rfl) dX0_makes_341 ⟨Nat.le_refl _, Nat.le_refl _⟩ (fun v_7 M_8 h_9 => ?_)
                                obtain ⟨⟨za, rfl⟩, hA5, hf5⟩ := h_9
                                have hf5 : Fr (fun z => z = (20, 0) ∨ z = (20, 1)) M4 M_8 := hf5.mono (fun z hz => Or.inr hz)
                                have hR5 : RC G g M_8 σ N lf := hR4.l20 hf5 ⟨_, _, hA5⟩
                                have hcs5 : ∀ q, q < N → isC σ N q → CSE G g M_8 σ N (cad q) q := fun q hq hc => (hcs4 q hq hc).fr hf5 (by simp) (by simp) (by simp)
                                have hfr5 : Fr PM M M_8 := hfr4.tr (hf5.mono (fun z hz => by rcases hz with h | h <;> rw [h] <;> (unfold PM; simp)))
                                have h215 : M_8 (g 21 0) = some ((21, 0), aI G 200 cf) := hf5 _ _ h214 (by simp)
                                have hins : insp (csc σ N) (srt (csc σ N) (nth (isC σ N) N) i) c0 i = (p1 + 1) := (insp_down hp hlt4).trans (insp_stop (s := csc σ N) (o := srt (csc σ N) (nth (isC σ N) N) i) (c := c0) (p := (p1 + 1)) (Or.inr (by rw [Nat.add_sub_cancel, ← hc1e]; omega)))
                                have hf6 : ∀ j, j < ncs σ N → (fun q => if q = (p1 + 1) then cad c0 else f4 q) j = cad (srt (csc σ N) (nth (isC σ N) N) (i + 1) j) := fun j hj => by
                                  show _ = cad (insO (csc σ N) (srt (csc σ N) (nth (isC σ N) N) i) i (srt (csc σ N) (nth (isC σ N) N) i i) j)
                                  rw [← hc0, ← shf_e hins.symm hp]
                                  by_cases e : j = (p1 + 1)
                                  · simp only [if_pos e]
                                  · simp only [if_neg e]; exact hf4 j hj
                                refine g_pop hx dX0_makes_344 rfl ?_
                                refine g_iinc (lv' := [(2, .int (iI ((i + 1 : Nat) : Int))), (4, .int (iI ((p1 + 1 : Nat) : Int))), (3, .ref (cad c0)), (0, .ref (g 0 0))]) (b := ((i + 1 : Nat) : Int)) hx 2 dX0_makes_345 rfl (by omega) (by decide) rfl ?_
                                refine g_goto hx 249 dX0_makes_348 (by decide) ?_
                                exact g_lv [0, 3] rfl (ih3 (by omega) (by omega) M_8 _ hR5 h215 hA5 hf6 hcs5 hfr5)
                              ·
                                refine g_aload_n hx 3 dX0_makes_304 rfl rfl ?_
                                refine gq94 (v := .ref (g 20 0)) hx rfl dX0_makes_305 hR4.o rfl ?_
                                refine g_iload hx 0 dX0_makes_308 rfl ?_
                                refine g_aload_n hx 3 dX0_makes_310 rfl rfl ?_
                                refine gq94 (v := .ref (g 20 0)) hx rfl dX0_makes_311 hR4.o rfl ?_
                                refine g_iload hx 0 dX0_makes_314 rfl ?_
                                refine g_iconst hx dX0_makes_316 ?_
                                refine g_isub hx dX0_makes_317 ?_
                                refine g_top (b := (p1 : Int)) (by omega) ?_
                                refine g_pcallV (rest := [.int (iI ((p1 + 1 : Nat) : Int)), .ref (g 20 0)]) (na := 1) hx (k_get l G M4 (g 20 0) (20, 0) (20, 1) (ncs σ N) f4 hA4 p1 (by omega)) ((al_cell hA4).choose_spec.choose_spec) rfl (lw_V q164 q165 q166 q34 q167) rfl rfl (by decide +kernel) rfl ⟨Nat.le_of_ble_eq_true rfl, Nat.le_of_ble_eq_true rfl⟩ rfl (Nat.le_of_ble_eq_true rfl) dX0_makes_318 ⟨Nat.le_refl _, Nat.le_refl _⟩ ?_
                                refine g_cast hx hcell1 rfl q391 dX0_makes_321 ?_
                                refine g_callV (rest := []) (na := 2) hx (k_set l G M4 (g 20 0) (20, 0) (20, 1) (ncs σ N) f4 hA4 (p1 + 1) (f4 p1) (by omega) ⟨_, _, _, hcell1, by decide, by decide⟩) ((al_cell hA4).choose_spec.choose_spec) rfl (lw_V q411 q412 q413 q34 q414) rfl rfl (by decide +kernel) rfl ⟨Nat.le_of_ble_eq_true rfl, Nat.le_of_ble_eq_true rfl⟩ rfl (Nat.le_of_ble_eq_true rfl) dX0_makes_324 ⟨Nat.le_refl _, Nat.le_refl _⟩ (fun v_10 M_11 h_12 => ?_)
                                obtain ⟨⟨za, rfl⟩, hA5, hf5⟩ := h_12
                                have hf5 : Fr (fun z => z = (20, 0) ∨ z = (20, 1)) M4 M_11 := hf5.mono (fun z hz => Or.inr hz)
                                have hR5 : RC G g M_11 σ N lf := hR4.l20 hf5 ⟨_, _, hA5⟩
                                have hcs5 : ∀ q, q < N → isC σ N q → CSE G g M_11 σ N (cad q) q := fun q hq hc => (hcs4 q hq hc).fr hf5 (by simp) (by simp) (by simp)
                                have hfr5 : Fr PM M M_11 := hfr4.tr (hf5.mono (fun z hz => by rcases hz with h | h <;> rw [h] <;> (unfold PM; simp)))
                                have h215 : M_11 (g 21 0) = some ((21, 0), aI G 200 cf) := hf5 _ _ h214 (by simp)
                                have hf6 : ∀ j, j < ncs σ N → (fun q => if q = p1 + 1 then f4 p1 else f4 q) j = cad (shf (srt (csc σ N) (nth (isC σ N) N) i) p1 i j) := fun j hj => by
                                  rw [← shf_s _ p1 i (by omega)]
                                  by_cases e : j = p1 + 1
                                  · simp only [if_pos e]; rw [hfp, hc1e]
                                  · simp only [if_neg e]; exact hf4 j hj
                                refine g_pop hx dX0_makes_327 rfl ?_
                                refine g_iinc (lv' := [(4, .int (iI (p1 : Int))), (3, .ref (cad c0)), (2, .int (iI (i : Int))), (0, .ref (g 0 0))]) (b := (p1 : Int)) hx 0 dX0_makes_328 rfl (by omega) (by decide) rfl ?_
                                refine g_goto hx 275 dX0_makes_331 (by decide) ?_
                                exact g_lv [0, 1, 2, 3] rfl (ih4 p1 (by omega) (by omega) M_11 _ hR5 h215 hA5 hf6 (fun q h1 h2 => by by_cases e : q = p1; (· subst e; rw [← hc1e]; omega); (· exact hlt4 q (by omega) h2)) hcs5 hfr5)
                          exact g_lv [0, 1, 2, 3] rfl (lp4 i (Nat.le_refl _) M3 f hR3 h213 hA3 (fun j hj => by rw [shf_i]; exact hf j hj) (fun q h1 h2 => by omega) hcs3 hf3)
                      exact g_widen (by omega) (by omega) (g_lv [0, 1] rfl (lp3 1 (by omega) (by omega) M2 _ hR2 h21 hA3 (fun j hj => by rw [srt_1]) hcs hf2))
                    ·
                      refine g_aload_n hx 1 dX0_makes_218 rfl rfl ?_
                      refine gq95 (v := .ref (g 21 0)) hx rfl dX0_makes_219 hR2.o rfl ?_
                      refine g_iload_n hx 0 dX0_makes_222 rfl rfl ?_
                      refine g_iald hx k (v := cf k) h21 rfl (by omega) (by decide) rfl dX0_makes_223 ?_
                      refine g_iload_n hx 0 dX0_makes_224 rfl rfl ?_
                      refine g_icmp_ne hx 241 (by omega) (by omega) dX0_makes_225 (by decide) (fun c_225 => ?_) (fun c_225 => ?_)
                      ·
                        have hlk := hL k (by omega)
                        have hnc : ¬ isC σ N k := fun h => by have h : lab σ N k = _ := h; omega
                        refine g_iinc (lv' := [(2, .int (iI ((k + 1 : Nat) : Int))), (0, .ref (g 0 0))]) (b := ((k + 1 : Nat) : Int)) hx 0 dX0_makes_241 rfl (by omega) (by decide) rfl ?_
                        refine g_goto hx 207 dX0_makes_244 (by decide) ?_
                        exact g_widen (by omega) (by omega) (g_lv [0, 1] rfl (ih2 (by omega) M2 cad nm hR2 h21 (by rw [← cn_n' hnc]; exact hA2) (lists_n hl2 hnc) (fun q hq hc => by by_cases e : q = k; (· subst e; exact absurd hc hnc); (· exact hcs q (by omega) hc)) hf2))
                      ·
                        have hlk := hL k (by omega)
                        have hc : isC σ N k := by show lab σ N k = _; omega
                        have hcy := cn_y hc
                        refine g_aload_n hx 1 dX0_makes_228 rfl rfl ?_
                        refine gq94 (v := .ref (g 20 0)) hx rfl dX0_makes_229 hR2.o rfl ?_
                        refine g_aload_n hx 1 dX0_makes_232 rfl rfl ?_
                        refine g_iload_n hx 0 dX0_makes_233 rfl rfl ?_
                        refine g_callV (rest := [.ref (g 20 0)]) (na := 1) hx (kc_gather l G g M2 σ N lf B hI hR2 cf h21 hL hIl.1 k (by omega)) hR2.o rfl (lw_V q387 q389 qs12 q31 q390) rfl rfl (by decide +kernel) rfl ⟨Nat.le_of_ble_eq_true rfl, Nat.le_of_ble_eq_true rfl⟩ rfl (Nat.le_of_ble_eq_true rfl) dX0_makes_234 ⟨by show _ ≤ 256; omega, by show _ ≤ 13184; omega⟩ (fun v_13 M_14 h_15 => ?_)
                        obtain ⟨a, rfl, hce, hf3⟩ := h_15
                        have hR3 : RC G g M_14 σ N lf := hR2.fr26 hf3 PK.ge
                        have hA3 : AL G M_14 (g 20 0) (20, 0) (20, 1) (cn (isC σ N) k).toNat (fun j => cad (nm j)) := hA2.fr hf3 (by simp [PK]) (by simp [PK])
                        have h213 : M_14 (g 21 0) = some ((21, 0), aI G 200 cf) := hf3 _ _ h21 (by simp [PK])
                        have hcs3 : ∀ q, q < k → isC σ N q → CSE G g M_14 σ N (cad q) q := fun q hq hc => (hcs q hq hc).fr hf3 (by simp [PK]; omega) (by simp [PK]; omega) (by simp [PK]; omega)
                        have hf3m : Fr PM M M_14 := hf2.tr (hf3.mono (fun z hz => by rcases hz with h | h | h <;> rw [h] <;> (unfold PM; simp)))
                        refine g_callV (rest := []) (na := 1) hx (k_add l G M_14 (g 20 0) (20, 0) (20, 1) (cn (isC σ N) k).toNat (fun j => cad (nm j)) a hA3 (by omega) (CSE.obj hce) (fun j hj => CSE.obj (hcs3 (nm j) (hl2 j (by omega)).1 (hl2 j (by omega)).2.1))) ((al_cell hA3).choose_spec.choose_spec) rfl (lw_V q256 q257 q258 q34 q259) rfl rfl (by decide +kernel) rfl ⟨Nat.le_of_ble_eq_true rfl, Nat.le_of_ble_eq_true rfl⟩ rfl (Nat.le_of_ble_eq_true rfl) dX0_makes_237 ⟨by show _ ≤ 256; omega, by show _ ≤ 13184; omega⟩ (fun v_16 M_17 h_18 => ?_)
                        obtain ⟨rfl, hA4, hf4⟩ := h_18
                        have hA4b : AL G M_17 (g 20 0) (20, 0) (20, 1) (cn (isC σ N) (k + 1)).toNat (fun j => (fun q => if q = k then a else cad q) ((fun j => if j = (cn (isC σ N) k).toNat then k else nm j) j)) := by
                          rw [show (cn (isC σ N) (k + 1)).toNat = (cn (isC σ N) k).toNat + 1 by omega]
                          refine hA4.cg (fun j hj => ?_)
                          by_cases e : j = (cn (isC σ N) k).toNat
                          · simp [e]
                          · have hnj := (hl2 j (by omega)).1; simp [e, show nm j ≠ k by omega]
                        have hR4 : RC G g M_17 σ N lf := hR3.l20 hf4 ⟨_, _, hA4⟩
                        refine g_pop hx dX0_makes_240 rfl ?_
                        refine g_iinc (lv' := [(2, .int (iI ((k + 1 : Nat) : Int))), (0, .ref (g 0 0))]) (b := ((k + 1 : Nat) : Int)) hx 0 dX0_makes_241 rfl (by omega) (by decide) rfl ?_
                        refine g_goto hx 207 dX0_makes_244 (by decide) ?_
                        exact g_widen (by omega) (by omega) (g_lv [0, 1] rfl (ih2 (by omega) M_17 (fun q => if q = k then a else cad q) (fun j => if j = (cn (isC σ N) k).toNat then k else nm j) (hR3.l20 hf4 ⟨_, _, hA4⟩) (hf4 _ _ h213 (by simp)) hA4b (lists_y (m := (cn (isC σ N) k).toNat) hl2 hc (by omega)) (fun q hq hc2 => by by_cases e : q = k; (· subst e; simp only [if_true]; exact hce.fr hf4 (by simp) (by simp) (by simp)); (· simp only [if_neg e]; exact (hcs3 q (by omega) hc2).fr hf4 (by simp) (by simp) (by simp))) (hf3m.tr (hf4.mono (fun z hz => by rcases hz with h | h <;> rw [h] <;> (unfold PM; simp))))))
                  exact g_lv [0, 2] rfl (g_widen (Nat.zero_le _) (Nat.zero_le _) (lp2 0 (Nat.zero_le _) _ (fun _ => 0) (fun _ => 0) (hRc cf) up_s ((AL.cg hA1 (fun j hj => absurd hj (by omega))).fr (P := fun z => z = (21, 0)) (Fr.ofUp hcf0 rfl) (by simp) (by simp)) lists_0 (fun q hq => by omega) hFm))
                ·
                  exact absurd rfl c_57
              ·
                exact g_lv [1, 2] rfl (ihw _ (hw1 rfl) _ hLI rfl)
            ·
              refine g_iload_n hx 0 dX0_makes_75 rfl rfl ?_
              refine g_iconst hx dX0_makes_76 ?_
              refine g_iadd hx dX0_makes_77 ?_
              refine g_istore_n (lv' := [(3, .int (iI ((a : Int) + 1))), (2, .int (iI (a : Int))), (1, .int (iI mo)), (0, .ref (g 0 0))]) hx dX0_makes_78 rfl (by decide) rfl ?_
              have lpB : ∀ b : Nat, b ≤ N → a + 1 ≤ b → ∀ (cf : Nat → Int) (mo : Int), LI σ N cf → (mo = 0 ∨ mo = 1) → (mo = 1 → wt cf N < w0) → (mo = 0 → wt cf N ≤ w0) → (mo = 0 → ∀ p q : Nat, ((p < a ∧ p < q ∧ q < N) ∨ (p = a ∧ a < q ∧ q < b)) → okp σ cf p q) → GW x (gQx x (fun v M' => v = none ∧ RC G g M' σ N lf ∧ (∃ cad, CSR G g M' σ N cad) ∧ Fr PM M M') 256 13184) (up M_2 (g 21 0) ((21, 0), aI G 200 cf)) 0 0 79 [(3, .int (iI (b : Int))), (2, .int (iI (a : Int))), (1, .int (iI mo)), (0, .ref (g 0 0))] [] := by
                refine down N (fun b hb ihB hab cf mo hLI hmo hw1 hw0 hok => ?_)
                have hra := hLI.rg (show a < N by omega); have hrb : b < N → -1 ≤ cf b ∧ cf b ≤ b := fun h => hLI.rg h
                refine g_iload_n hx 0 dX0_makes_79 rfl rfl ?_
                refine g_aload_n hx 3 dX0_makes_80 rfl rfl ?_
                refine gq85 (v := .ref (g 1 0)) hx rfl dX0_makes_81 ((hRc cf).o) rfl ?_
                refine g_pcallV (rest := [.int (iI (b : Int))]) (na := 0) hx (k_size l G (up M_2 (g 21 0) ((21, 0), aI G 200 cf)) (g 1 0) (1, 0) (1, 1) N (g 10) ((hRc cf).ls)) ((al_cell ((hRc cf).ls)).choose_spec.choose_spec) rfl (lw_V q160 q161 q162 q34 q163) rfl rfl (by decide +kernel) rfl ⟨Nat.le_of_ble_eq_true rfl, Nat.le_of_ble_eq_true rfl⟩ rfl (Nat.le_of_ble_eq_true rfl) dX0_makes_84 ⟨Nat.zero_le _, Nat.zero_le _⟩ ?_
                refine g_icmp_ge hx 196 (by omega) (by omega) dX0_makes_87 (by decide) (fun c_87 => ?_) (fun c_87 => ?_)
                ·
                  refine g_iinc (lv' := [(2, .int (iI ((a + 1 : Nat) : Int))), (3, .int (iI (b : Int))), (1, .int (iI mo)), (0, .ref (g 0 0))]) (b := ((a + 1 : Nat) : Int)) hx 1 dX0_makes_196 rfl (by omega) (by decide) rfl ?_
                  refine g_goto hx 64 dX0_makes_199 (by decide) ?_
                  exact g_lv [0, 2, 3] rfl (ihA (by omega) _ _ hLI hmo hw1 hw0 (fun hz p q h1 h2 h3 => hok hz p q (by omega)))
                ·
                  refine g_aload_n hx 3 dX0_makes_90 rfl rfl ?_
                  refine gq95 (v := .ref (g 21 0)) hx rfl dX0_makes_91 ((hRc cf).o) rfl ?_
                  refine g_iload_n hx 1 dX0_makes_94 rfl rfl ?_
                  refine g_iald hx a (v := cf a) up_s rfl (by omega) (by decide) rfl dX0_makes_95 ?_
                  refine g_if_lt hx 190 (by omega) dX0_makes_96 (by decide) (fun c_96 => ?_) (fun c_96 => ?_)
                  ·
                    have hp : okp σ cf a b := by unfold okp; first | omega | (exact Or.inr (Or.inr (Or.inr (by assumption))))
                    refine g_iinc (lv' := [(3, .int (iI ((b + 1 : Nat) : Int))), (2, .int (iI (a : Int))), (1, .int (iI mo)), (0, .ref (g 0 0))]) (b := ((b + 1 : Nat) : Int)) hx 0 dX0_makes_190 rfl (by omega) (by decide) rfl ?_
                    refine g_goto hx 79 dX0_makes_193 (by decide) ?_
                    exact g_lv [0, 1, 2, 3] rfl (ihB (by omega) (by omega) _ _ hLI hmo hw1 hw0 (fun hz p q h => by by_cases e : p = a ∧ q = b; (· obtain ⟨rfl, rfl⟩ := e; exact hp); (· exact hok hz p q (by omega))))
                  ·
                    refine g_aload_n hx 3 dX0_makes_99 rfl rfl ?_
                    refine gq95 (v := .ref (g 21 0)) hx rfl dX0_makes_100 ((hRc cf).o) rfl ?_
                    refine g_iload_n hx 0 dX0_makes_103 rfl rfl ?_
                    refine g_iald hx b (v := cf b) up_s rfl (by omega) (by decide) rfl dX0_makes_104 ?_
                    refine g_if_lt hx 190 (by omega) dX0_makes_105 (by decide) (fun c_105 => ?_) (fun c_105 => ?_)
                    ·
                      have hp : okp σ cf a b := by unfold okp; first | omega | (exact Or.inr (Or.inr (Or.inr (by assumption))))
                      refine g_iinc (lv' := [(3, .int (iI ((b + 1 : Nat) : Int))), (2, .int (iI (a : Int))), (1, .int (iI mo)), (0, .ref (g 0 0))]) (b := ((b + 1 : Nat) : Int)) hx 0 dX0_makes_190 rfl (by omega) (by decide) rfl ?_
                      refine g_goto hx 79 dX0_makes_193 (by decide) ?_
                      exact g_lv [0, 1, 2, 3] rfl (ihB (by omega) (by omega) _ _ hLI hmo hw1 hw0 (fun hz p q h => by by_cases e : p = a ∧ q = b; (· obtain ⟨rfl, rfl⟩ := e; exact hp); (· exact hok hz p q (by omega))))
                    ·
                      refine g_aload_n hx 3 dX0_makes_108 rfl rfl ?_
                      refine gq95 (v := .ref (g 21 0)) hx rfl dX0_makes_109 ((hRc cf).o) rfl ?_
                      refine g_iload_n hx 1 dX0_makes_112 rfl rfl ?_
                      refine g_iald hx a (v := cf a) up_s rfl (by omega) (by decide) rfl dX0_makes_113 ?_
                      refine g_aload_n hx 3 dX0_makes_114 rfl rfl ?_
                      refine gq95 (v := .ref (g 21 0)) hx rfl dX0_makes_115 ((hRc cf).o) rfl ?_
                      refine g_iload_n hx 0 dX0_makes_118 rfl rfl ?_
                      refine g_iald hx b (v := cf b) up_s rfl (by omega) (by decide) rfl dX0_makes_119 ?_
                      refine g_icmp_eq hx 190 (by omega) (by omega) dX0_makes_120 (by decide) (fun c_120 => ?_) (fun c_120 => ?_)
                      ·
                        have hp : okp σ cf a b := by unfold okp; first | omega | (exact Or.inr (Or.inr (Or.inr (by assumption))))
                        refine g_iinc (lv' := [(3, .int (iI ((b + 1 : Nat) : Int))), (2, .int (iI (a : Int))), (1, .int (iI mo)), (0, .ref (g 0 0))]) (b := ((b + 1 : Nat) : Int)) hx 0 dX0_makes_190 rfl (by omega) (by decide) rfl ?_
                        refine g_goto hx 79 dX0_makes_193 (by decide) ?_
                        exact g_lv [0, 1, 2, 3] rfl (ihB (by omega) (by omega) _ _ hLI hmo hw1 hw0 (fun hz p q h => by by_cases e : p = a ∧ q = b; (· obtain ⟨rfl, rfl⟩ := e; exact hp); (· exact hok hz p q (by omega))))
                      ·
                        refine g_aload_n hx 3 dX0_makes_123 rfl rfl ?_
                        refine g_aload_n hx 3 dX0_makes_124 rfl rfl ?_
                        refine gq85 (v := .ref (g 1 0)) hx rfl dX0_makes_125 ((hRc cf).o) rfl ?_
                        refine g_iload_n hx 1 dX0_makes_128 rfl rfl ?_
                        refine g_pcallV (rest := [.ref (g 0 0)]) (na := 1) hx (k_get l G (up M_2 (g 21 0) ((21, 0), aI G 200 cf)) (g 1 0) (1, 0) (1, 1) N (g 10) ((hRc cf).ls) a (by omega)) ((al_cell ((hRc cf).ls)).choose_spec.choose_spec) rfl (lw_V q164 q165 q166 q34 q167) rfl rfl (by decide +kernel) rfl ⟨Nat.le_of_ble_eq_true rfl, Nat.le_of_ble_eq_true rfl⟩ rfl (Nat.le_of_ble_eq_true rfl) dX0_makes_129 ⟨Nat.zero_le _, Nat.zero_le _⟩ ?_
                        refine g_cast hx ((hRc cf).al (i := a) (by omega)) rfl q178 dX0_makes_132 ?_
                        refine g_aload_n hx 3 dX0_makes_135 rfl rfl ?_
                        refine gq85 (v := .ref (g 1 0)) hx rfl dX0_makes_136 ((hRc cf).o) rfl ?_
                        refine g_iload_n hx 0 dX0_makes_139 rfl rfl ?_
                        refine g_pcallV (rest := [.ref (g 10 a), .ref (g 0 0)]) (na := 1) hx (k_get l G (up M_2 (g 21 0) ((21, 0), aI G 200 cf)) (g 1 0) (1, 0) (1, 1) N (g 10) ((hRc cf).ls) b (by omega)) ((al_cell ((hRc cf).ls)).choose_spec.choose_spec) rfl (lw_V q164 q165 q166 q34 q167) rfl rfl (by decide +kernel) rfl ⟨Nat.le_of_ble_eq_true rfl, Nat.le_of_ble_eq_true rfl⟩ rfl (Nat.le_of_ble_eq_true rfl) dX0_makes_140 ⟨Nat.zero_le _, Nat.zero_le _⟩ ?_
                        refine g_cast hx ((hRc cf).al (i := b) (by omega)) rfl q178 dX0_makes_143 ?_
                        refine g_pcallV (rest := []) (na := 2) hx (kc_isTied l G g (up M_2 (g 21 0) ((21, 0), aI G 200 cf)) σ N lf B hI (hRc cf) a b (by omega) (by omega)) ((hRc cf).o) rfl (lw_V q379 q381 qs11 q31 q382) rfl rfl (by decide +kernel) rfl ⟨Nat.le_of_ble_eq_true rfl, Nat.le_of_ble_eq_true rfl⟩ rfl (Nat.le_of_ble_eq_true rfl) dX0_makes_146 ⟨Nat.zero_le _, Nat.zero_le _⟩ ?_
                        refine g_if_neP hx 155 dX0_makes_149 (by decide) (fun c_149 => ?_) (fun c_149 => ?_)
                        ·
                          refine g_aload_n hx 3 dX0_makes_155 rfl rfl ?_
                          refine gq95 (v := .ref (g 21 0)) hx rfl dX0_makes_156 ((hRc cf).o) rfl ?_
                          refine g_iload_n hx 1 dX0_makes_159 rfl rfl ?_
                          refine g_iald hx a (v := cf a) up_s rfl (by omega) (by decide) rfl dX0_makes_160 ?_
                          refine g_aload_n hx 3 dX0_makes_161 rfl rfl ?_
                          refine gq95 (v := .ref (g 21 0)) hx rfl dX0_makes_162 ((hRc cf).o) rfl ?_
                          refine g_iload_n hx 0 dX0_makes_165 rfl rfl ?_
                          refine g_iald hx b (v := cf b) up_s rfl (by omega) (by decide) rfl dX0_makes_166 ?_
                          refine g_mmin hx (by omega) (by omega) q386 ⟨Nat.le_of_ble_eq_true rfl, Nat.le_of_ble_eq_true rfl⟩ (Nat.le_of_ble_eq_true rfl) ⟨Nat.zero_le _, Nat.zero_le _⟩ dX0_makes_167 ?_
                          refine g_istore (lv' := [(4, .int (iI (min (cf a) (cf b)))), (3, .int (iI (b : Int))), (2, .int (iI (a : Int))), (1, .int (iI mo)), (0, .ref (g 0 0))]) hx dX0_makes_170 (by decide) rfl ?_
                          refine g_aload_n hx 4 dX0_makes_172 rfl rfl ?_
                          refine gq95 (v := .ref (g 21 0)) hx rfl dX0_makes_173 ((hRc cf).o) rfl ?_
                          refine g_iload_n hx 2 dX0_makes_176 rfl rfl ?_
                          refine g_iload hx 0 dX0_makes_177 rfl ?_
                          refine g_iast hx a up_s rfl (by omega) (by decide) dX0_makes_179 ?_
                          refine g_M up_up ?_
                          refine g_aload_n hx 4 dX0_makes_180 rfl rfl ?_
                          refine gq95 (v := .ref (g 21 0)) hx rfl dX0_makes_181 ((hRc (fu cf a (min (cf a) (cf b)))).o) rfl ?_
                          refine g_iload_n hx 1 dX0_makes_184 rfl rfl ?_
                          refine g_iload hx 0 dX0_makes_185 rfl ?_
                          refine g_iast hx b up_s rfl (by omega) (by decide) dX0_makes_187 ?_
                          refine g_M up_up ?_
                          have hLI2 := hLI.join (show a < b by omega) (show b < N by omega) (by omega) (by omega) c_149
                          have hwt2 := wt_join (N := N) (f := cf) (show a < b by omega) (by omega) (by omega) (by omega) c_120
                          have hmw : wt cf N ≤ w0 := by rcases hmo with h | h; (· exact hw0 h); (· exact Nat.le_of_lt (hw1 h))
                          refine g_iconst hx dX0_makes_188 ?_
                          refine g_istore_n (lv' := [(1, .int (iI 1)), (4, .int (iI (min (cf a) (cf b)))), (3, .int (iI (b : Int))), (2, .int (iI (a : Int))), (0, .ref (g 0 0))]) hx dX0_makes_189 rfl (by decide) rfl ?_
                          refine g_iinc (lv' := [(3, .int (iI ((b + 1 : Nat) : Int))), (1, .int (iI 1)), (4, .int (iI (min (cf a) (cf b)))), (2, .int (iI (a : Int))), (0, .ref (g 0 0))]) (b := ((b + 1 : Nat) : Int)) hx 2 dX0_makes_190 rfl (by omega) (by decide) rfl ?_
                          refine g_goto hx 79 dX0_makes_193 (by decide) ?_
                          exact g_lv [0, 3, 1, 4] rfl (ihB (by omega) (by omega) _ _ hLI2 (Or.inr rfl) (fun _ => by omega) (fun h => by omega) (fun h => by omega))
                        ·
                          refine g_goto hx 190 dX0_makes_152 (by decide) ?_
                          have hp : okp σ cf a b := by unfold okp; first | omega | (exact Or.inr (Or.inr (Or.inr (by assumption))))
                          refine g_iinc (lv' := [(3, .int (iI ((b + 1 : Nat) : Int))), (2, .int (iI (a : Int))), (1, .int (iI mo)), (0, .ref (g 0 0))]) (b := ((b + 1 : Nat) : Int)) hx 0 dX0_makes_190 rfl (by omega) (by decide) rfl ?_
                          refine g_goto hx 79 dX0_makes_193 (by decide) ?_
                          exact g_lv [0, 1, 2, 3] rfl (ihB (by omega) (by omega) _ _ hLI hmo hw1 hw0 (fun hz p q h => by by_cases e : p = a ∧ q = b; (· obtain ⟨rfl, rfl⟩ := e; exact hp); (· exact hok hz p q (by omega))))
              exact g_lv [0, 1, 2, 3] (by rw [show ((a + 1 : Nat) : Int) = (a : Int) + 1 by omega]; rfl) (lpB (a + 1) (by omega) (by omega) _ _ hLI hmo hw1 hw0 (fun hz p q h => hokA hz p q (by omega) (by omega) (by omega)))
          exact g_lv [0, 1, 2] rfl (lpA 0 (Nat.zero_le _) _ _ hLI (Or.inl rfl) (fun h => by omega) (fun _ => by omega) (fun _ p q h => by omega))
      exact g_lv [0, 1] rfl (lpw _ _ hLI0 rfl)
    ·
      refine g_aload_n hx 1 dX0_makes_20 rfl rfl ?_
      refine gq95 (v := .ref (g 21 0)) hx rfl dX0_makes_21 ((hRc cf).o) rfl ?_
      refine g_iload_n hx 0 dX0_makes_24 rfl rfl ?_
      refine g_aload_n hx 1 dX0_makes_25 rfl rfl ?_
      refine gq85 (v := .ref (g 1 0)) hx rfl dX0_makes_26 ((hRc cf).o) rfl ?_
      refine g_iload_n hx 0 dX0_makes_29 rfl rfl ?_
      refine g_pcallV (rest := [.int (iI (k : Int)), .ref (g 21 0)]) (na := 1) hx (k_get l G (up M_2 (g 21 0) ((21, 0), aI G 200 cf)) (g 1 0) (1, 0) (1, 1) N (g 10) ((hRc cf).ls) k (by omega)) ((al_cell ((hRc cf).ls)).choose_spec.choose_spec) rfl (lw_V q164 q165 q166 q34 q167) rfl rfl (by decide +kernel) rfl ⟨Nat.le_of_ble_eq_true rfl, Nat.le_of_ble_eq_true rfl⟩ rfl (Nat.le_of_ble_eq_true rfl) dX0_makes_30 ⟨Nat.zero_le _, Nat.zero_le _⟩ ?_
      refine g_cast hx ((hRc cf).al (i := k) (by omega)) rfl q178 dX0_makes_33 ?_
      refine g_pcallV (rest := [.int (iI (k : Int)), .ref (g 21 0)]) (na := 0) hx (k_isWaiting l G g (up M_2 (g 21 0) ((21, 0), aI G 200 cf)) σ N lf B hI (hRc cf) k (by omega)) ((hRc cf).al (i := k) (by omega)) rfl (lw_V q183 q184 q185 q38 q186) rfl rfl (by decide +kernel) rfl ⟨Nat.le_of_ble_eq_true rfl, Nat.le_of_ble_eq_true rfl⟩ rfl (Nat.le_of_ble_eq_true rfl) dX0_makes_36 ⟨Nat.zero_le _, Nat.zero_le _⟩ ?_
      refine g_if_eqP hx 46 dX0_makes_39 (by decide) (fun c_39 => ?_) (fun c_39 => ?_)
      ·
        refine g_iconst hx dX0_makes_46 ?_
        refine g_iast hx k up_s rfl (by omega) (by decide) dX0_makes_47 ?_
        refine g_M up_up ?_
        refine g_iinc (lv' := [(1, .int (iI ((k + 1 : Nat) : Int))), (0, .ref (g 0 0))]) (b := ((k + 1 : Nat) : Int)) hx 0 dX0_makes_48 rfl (by omega) (by decide) rfl ?_
        refine g_goto hx 9 dX0_makes_51 (by decide) ?_
        exact g_lv [0, 1] rfl (ih (by omega) _ (fun i hi => by by_cases e : i = k; (· subst e; rw [fu_s, if_neg c_39]); (· rw [fu_n e]; exact hcf i (by omega))))
      ·
        refine g_iload_n hx 0 dX0_makes_42 rfl rfl ?_
        refine g_goto hx 47 dX0_makes_43 (by decide) ?_
        refine g_iast hx k up_s rfl (by omega) (by decide) dX0_makes_47 ?_
        refine g_M up_up ?_
        refine g_iinc (lv' := [(1, .int (iI ((k + 1 : Nat) : Int))), (0, .ref (g 0 0))]) (b := ((k + 1 : Nat) : Int)) hx 0 dX0_makes_48 rfl (by omega) (by decide) rfl ?_
        refine g_goto hx 9 dX0_makes_51 (by decide) ?_
        exact g_lv [0, 1] rfl (ih (by omega) _ (fun i hi => by by_cases e : i = k; (· subst e; rw [fu_s, if_pos c_39]); (· rw [fu_n e]; exact hcf i (by omega))))
  exact g_lv [0, 1] rfl (lp1 0 (Nat.zero_le _) cf0 (fun i hi => by omega))
