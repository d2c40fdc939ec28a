/-! THE CLASS: gather -/
set_option maxRecDepth 100000
theorem RC.fr26 {G : gG} {g : gA2} {M M' : gH} {σ : sT} {N : Nat} {lf : Int} {P : gL → Prop} (h : RC G g M σ N lf) (hf : Fr P M M') (hp : ∀ z, P z → 26 ≤ z.1) : RC G g M' σ N lf :=
  ⟨hf _ _ h.1 (fun z => by have := hp _ z; simp at this), h.2.1.fr hf (fun z hz => Or.inr (by have := hp z hz; omega)), h.2.2.fr hf (fun z hz => Or.inr (hp z hz))⟩
/-- a case of number k at the cell a -/
def CSE (G : gG) (g : gA2) (M : gH) (σ : sT) (N : Nat) (a k : Nat) : Prop := ∃ (v : Nat) (me : Nat → Nat), M a = some ((26, k), .inr (2, [.ref v, .int (iI (csc σ N k)), .int (iI (bz (clk σ N k)))])) ∧ AL G M v (27, k) (28, k) (csz σ N k) (fun j => g 10 (me j)) ∧ lists (inC σ N k) N me
def PK (k : Nat) : gL → Prop := fun z => z = (26, k) ∨ z = (27, k) ∨ z = (28, k)
theorem PK.ge {k : Nat} : ∀ z, PK k z → 26 ≤ z.1 := fun z hz => by rcases hz with h | h | h <;> rw [h] <;> simp
theorem CSE.fr {G : gG} {g : gA2} {M M' : gH} {σ : sT} {N a k : Nat} {P : gL → Prop} (h : CSE G g M σ N a k) (hf : Fr P M M') (h1 : ¬ P (26, k)) (h2 : ¬ P (27, k)) (h3 : ¬ P (28, k)) : CSE G g M' σ N a k := by
  obtain ⟨v, me, a1, a2, a3⟩ := h
  exact ⟨v, me, hf _ _ a1 h1, a2.fr hf h2 h3, a3⟩
def lkn (σ : sT) (N k i : Nat) : Prop := ∃ q, q < i ∧ inC σ N k q ∧ dep σ N q = 0
theorem lkn_n {σ : sT} {N k i : Nat} (h : ¬ inC σ N k i) : lkn σ N k i ↔ lkn σ N k (i + 1) := by
  constructor
  · rintro ⟨q, h1, h2⟩; exact ⟨q, by omega, h2⟩
  · rintro ⟨q, h1, h2, h3⟩
    by_cases e : q = i
    · subst e; exact absurd h2 h
    · exact ⟨q, by omega, h2, h3⟩
theorem gat_fin {G : gG} {g : gA2} {M M1 : gH} {σ : sT} {N k i a v : Nat} {me : Nat → Nat} (hi : i = N) (ha : M1 a = some ((26, k), .inr (2, [.ref v, .int (iI (mx (sco σ N) (inC σ N k) i)), .int (iI (bz (lkn σ N k i)))]))) (hA : AL G M1 v (27, k) (28, k) (cn (inC σ N k) i).toNat (fun j => g 10 (me j))) (hl : lists (inC σ N k) i me) (hf : Fr (PK k) M M1) : (fun (w : Option Value) (M' : gH) => ∃ a : Nat, w = some (Value.ref a) ∧ CSE G g M' σ N a k ∧ Fr (PK k) M M') (some (Value.ref a)) M1 := by
  subst hi
  exact ⟨a, rfl, ⟨v, me, ha, hA, hl⟩, hf⟩
theorem kc_gather (l : Launch) (G : gG) (g : gA2) (M : gH) (σ : sT) (N : Nat) (lf : Int) (B : Nat) (hI : Iv σ N B) (hR : RC G g M σ N lf) (cf : Nat → Int) (hcf : M (g 21 0) = some ((21, 0), aI G 200 cf)) (hL : ∀ i, i < N → cf i = lab σ N i) (hLI : LI σ N (lab σ N)) (k : Nat) (hk : k < N) : GMet l yX0_gather (ws_ yX0_gather cX0_gather 5 (some (.object "CryOrder$Case"))) ({ frames := 7, cells := 2 + csz σ N k, slots := 6 + 100 * csz σ N k, locals := 171 } : Room) G [.ref (g 0 0), .int (iI (k : Int))] M (fun w M' => ∃ a, w = some (.ref a) ∧ CSE G g M' σ N a k ∧ Fr (PK k) M M') (2 + csz σ N k) (6 + 100 * csz σ N k) := by
  refine g_start (by decide) (Nat.le_of_ble_eq_true rfl) (fun x hx => ?_)
  have hb0 := hI.1
  have h5 : ∀ q, q < N → 1 ≤ σ 5 q ∧ σ 5 q ≤ 100 := fun q hq => by have := (hI.2.1 q hq).1; unfold okA at this; omega
  refine g_new hx (26, k) (ci := 2) (C := RX4) (T := TX4) (N := 3) (fs := [.null, .int (iI 0), .int (iI 0)]) rfl in_X4 tyX4_ok q391 q392 q44 dfX4 (by show 0 + 1 ≤ 2 + csz σ N k; omega) (by show 0 + 3 ≤ 6 + 100 * csz σ N k; omega) dX0_gather_0 (fun a ha hab => ?_)
  obtain ⟨M_1, e_2⟩ : ∃ M1 : gH, M1 = up M a ((26, k), .inr (2, [.null, .int (iI 0), .int (iI 0)])) := ⟨_, rfl⟩
  refine g_M e_2.symm ?_
  have ha1 : M_1 a = some ((26, k), .inr (2, [.null, .int (iI 0), .int (iI 0)])) := by rw [e_2]; exact up_s
  have hF1 : Fr (fun _ => False) M M_1 := by rw [e_2]; exact Fr.new ha
  refine g_dup hx dX0_gather_3 rfl ?_
  refine g_callIN (rest := [.ref a]) (na := 0) hx (k_Case_init l G M_1 a (26, k) (27, k) ha1) (lw_meth q395) q44 q393 q394 rfl rfl rfl (by decide +kernel) rfl ⟨Nat.le_of_ble_eq_true rfl, Nat.le_of_ble_eq_true rfl⟩ rfl (Nat.le_of_ble_eq_true rfl) dX0_gather_4 ⟨by show 0 + 1 + 1 ≤ 2 + csz σ N k; omega, by show 0 + 3 + 3 ≤ 6 + 100 * csz σ N k; omega⟩ (fun v_3 M_4 h_5 => ?_)
  obtain ⟨rfl, v, hv, rfl⟩ := h_5
  obtain ⟨M_6, e_7⟩ : ∃ M1 : gH, M1 = up (up M_1 v ((27, k), alc 0 G.2.2.2.1 0)) a ((26, k), .inr (2, [.ref v, .int (iI 0), .int (iI 0)])) := ⟨_, rfl⟩
  refine g_M e_7.symm ?_
  have hav : up M_1 v ((27, k), alc 0 G.2.2.2.1 0) a = some ((26, k), .inr (2, [.null, .int (iI 0), .int (iI 0)])) := up_f hv ha1
  have hF2 : Fr (PK k) M M_6 := by rw [e_7]; exact (hF1.mono (fun z hz => hz.elim)).tr ((Fr.new hv).tr (Fr.ofUp hav (Or.inl rfl)))
  have ha2 : M_6 a = some ((26, k), .inr (2, [.ref v, .int (iI (mx (sco σ N) (inC σ N k) 0)), .int (iI (bz (lkn σ N k 0)))])) := by rw [e_7, bz_f (fun ⟨q, h1, h2⟩ => by omega)]; exact up_s
  have hA2 : AL G M_6 v (27, k) (28, k) (cn (inC σ N k) 0).toNat (fun j => g 10 ((fun _ => 0) j)) := ⟨0, _, by rw [e_7]; exact up_l hav up_s (by simp), Or.inl ⟨rfl, rfl⟩⟩
  refine g_astore_n (lv' := [(2, .ref a), (0, .ref (g 0 0)), (1, .int (iI (k : Int)))]) hx dX0_gather_7 rfl (by decide) rfl ?_
  refine g_iconst hx dX0_gather_8 ?_
  refine g_istore_n (lv' := [(3, .int (iI 0)), (2, .ref a), (0, .ref (g 0 0)), (1, .int (iI (k : Int)))]) hx dX0_gather_9 rfl (by decide) rfl ?_
  have lp : ∀ i : Nat, i ≤ N → ∀ (M1 : gH) (me : Nat → Nat), RC G g M1 σ N lf → M1 (g 21 0) = some ((21, 0), aI G 200 cf) → M1 a = some ((26, k), .inr (2, [.ref v, .int (iI (mx (sco σ N) (inC σ N k) i)), .int (iI (bz (lkn σ N k i)))])) → AL G M1 v (27, k) (28, k) (cn (inC σ N k) i).toNat (fun j => g 10 (me j)) → lists (inC σ N k) i me → Fr (PK k) M M1 → GW x (gQx x (fun w M' => ∃ a, w = some (.ref a) ∧ CSE G g M' σ N a k ∧ Fr (PK k) M M') (2 + csz σ N k) (6 + 100 * csz σ N k)) M1 (2 + (cn (inC σ N k) i).toNat) (6 + 100 * (cn (inC σ N k) i).toNat) 10 [(3, .int (iI (i : Int))), (2, .ref a), (0, .ref (g 0 0)), (1, .int (iI (k : Int)))] [] := by
    refine down N (fun i hi ih M1 me hR1 h21 ha1 hA1 hl1 hf1 => ?_)
    have hcfr : i < N → -1 ≤ cf i ∧ cf i ≤ i := fun h => by rw [hL i h]; exact hLI.rg h
    have hcn := cn_rg (inC σ N k) i; have hcN := cn_mono (P := (inC σ N k)) hi; have hcz := csz_c σ N k
    have hsc := mx_rg (f := sco σ N) (P := (inC σ N k)) 100000 i (fun q hq => (sco_rg (h5 q (by omega))).2) (by decide)
    refine g_iload_n hx 0 dX0_gather_10 rfl rfl ?_
    refine g_aload_n hx 2 dX0_gather_11 rfl rfl ?_
    refine gq85 (v := .ref (g 1 0)) hx rfl dX0_gather_12 hR1.o rfl ?_
    refine g_pcallV (rest := [.int (iI (i : Int))]) (na := 0) hx (k_size l G M1 (g 1 0) (1, 0) (1, 1) N (g 10) hR1.ls) ((al_cell hR1.ls).choose_spec.choose_spec) rfl (lw_V q160 q161 q162 q34 q163) rfl rfl (by decide +kernel) rfl ⟨Nat.le_of_ble_eq_true rfl, Nat.le_of_ble_eq_true rfl⟩ rfl (Nat.le_of_ble_eq_true rfl) dX0_gather_15 ⟨by show _ ≤ 2 + csz σ N k; omega, by show _ ≤ 6 + 100 * csz σ N k; omega⟩ ?_
    refine g_icmp_ge hx 105 (by omega) (by omega) dX0_gather_18 (by decide) (fun c_18 => ?_) (fun c_18 => ?_)
    ·
      refine g_aload_n hx 1 dX0_gather_105 rfl rfl ?_
      exact g_aret hx (Or.inl ⟨_, rfl⟩) (Or.inr ⟨_, rfl⟩) (by omega) (by omega) dX0_gather_106 (gat_fin (by omega) ha1 hA1 hl1 hf1)
    ·
      refine g_aload_n hx 2 dX0_gather_21 rfl rfl ?_
      refine gq95 (v := .ref (g 21 0)) hx rfl dX0_gather_22 hR1.o rfl ?_
      refine g_iload_n hx 0 dX0_gather_25 rfl rfl ?_
      refine g_iald hx i (v := cf i) h21 rfl (by omega) (by decide) rfl dX0_gather_26 ?_
      refine g_iload_n hx 3 dX0_gather_27 rfl rfl ?_
      refine g_icmp_eq hx 34 (by omega) (by omega) dX0_gather_28 (by decide) (fun c_28 => ?_) (fun c_28 => ?_)
      ·
        have hlab := hL i (by omega)
        have hP : inC σ N k i := by show lab σ N i = _; omega
        have hb := (hI.2.1 i (by omega)).1; unfold okA at hb; have hdp := dep_le σ N i
        have hcy := cn_y hP; have hcN1 := cn_mono (P := (inC σ N k)) (show i + 1 ≤ N by omega)
        refine g_aload_n hx 2 dX0_gather_34 rfl rfl ?_
        refine gq85 (v := .ref (g 1 0)) hx rfl dX0_gather_35 hR1.o rfl ?_
        refine g_iload_n hx 0 dX0_gather_38 rfl rfl ?_
        refine g_pcallV (rest := []) (na := 1) hx (k_get l G M1 (g 1 0) (1, 0) (1, 1) N (g 10) hR1.ls i (by omega)) ((al_cell hR1.ls).choose_spec.choose_spec) rfl (lw_V q164 q165 q166 q34 q167) rfl rfl (by decide +kernel) rfl ⟨Nat.le_of_ble_eq_true rfl, Nat.le_of_ble_eq_true rfl⟩ rfl (Nat.le_of_ble_eq_true rfl) dX0_gather_39 ⟨by show _ ≤ 2 + csz σ N k; omega, by show _ ≤ 6 + 100 * csz σ N k; omega⟩ ?_
        refine g_cast hx (hR1.al (i := i) (by omega)) rfl q178 dX0_gather_42 ?_
        refine g_astore (lv' := [(4, .ref (g 10 i)), (3, .int (iI (i : Int))), (2, .ref a), (0, .ref (g 0 0)), (1, .int (iI (k : Int)))]) hx dX0_gather_45 (by decide) rfl ?_
        refine g_aload_n hx 2 dX0_gather_47 rfl rfl ?_
        refine gq400 (v := .ref v) hx rfl dX0_gather_48 ha1 rfl ?_
        refine g_aload hx 0 dX0_gather_51 rfl ?_
        refine g_callV (rest := []) (na := 1) hx (k_add l G M1 v (27, k) (28, k) (cn (inC σ N k) i).toNat (fun j => g 10 (me j)) (g 10 i) hA1 (by omega) ⟨_, _, _, hR1.al (i := i) (by omega), by decide, by decide⟩ (fun j hj => ⟨_, _, _, hR1.al (i := me j) (by have := (hl1 j (by omega)).1; omega), by decide, by decide⟩)) ((al_cell hA1).choose_spec.choose_spec) rfl (lw_V q256 q257 q258 q34 q259) rfl rfl (by decide +kernel) rfl ⟨Nat.le_of_ble_eq_true rfl, Nat.le_of_ble_eq_true rfl⟩ rfl (Nat.le_of_ble_eq_true rfl) dX0_gather_53 ⟨by show 2 + _ + 1 ≤ 2 + csz σ N k; omega, by show 6 + _ + 100 ≤ 6 + 100 * csz σ N k; omega⟩ (fun v_8 M_9 h_10 => ?_)
        have hfadd := h_10.2.2
        obtain ⟨rfl, hA2, hf2⟩ := h_10
        have hf2 : Fr (PK k) M1 M_9 := hf2.mono (fun z hz => by rcases hz with h | h; (· exact Or.inr (Or.inl h)); (· exact Or.inr (Or.inr h)))
        have hR2 : RC G g M_9 σ N lf := hR1.fr26 hf2 PK.ge
        have ha2 : M_9 a = some ((26, k), .inr (2, [.ref v, .int (iI (mx (sco σ N) (inC σ N k) i)), .int (iI (bz (lkn σ N k i)))])) := hfadd _ _ ha1 (by simp)
        have h212 : M_9 (g 21 0) = some ((21, 0), aI G 200 cf) := hf2 _ _ h21 (by simp [PK])
        refine g_pop hx dX0_gather_56 rfl ?_
        refine g_aload_n hx 2 dX0_gather_57 rfl rfl ?_
        refine g_aload_n hx 2 dX0_gather_58 rfl rfl ?_
        refine gq401 (v := .int (iI (mx (sco σ N) (inC σ N k) i))) hx rfl dX0_gather_59 ha2 rfl ?_
        refine g_aload_n hx 3 dX0_gather_62 rfl rfl ?_
        refine g_aload hx 0 dX0_gather_63 rfl ?_
        refine g_pcallV (rest := [.int (iI (mx (sco σ N) (inC σ N k) i)), .ref a]) (na := 1) hx (kc_scoreOf l G g M_9 σ N lf B hI hR2 i (by omega)) hR2.o rfl (lw_V q367 q369 qs9 q31 q370) rfl rfl (by decide +kernel) rfl ⟨Nat.le_of_ble_eq_true rfl, Nat.le_of_ble_eq_true rfl⟩ rfl (Nat.le_of_ble_eq_true rfl) dX0_gather_65 ⟨by show _ ≤ 2 + csz σ N k; omega, by show _ ≤ 6 + 100 * csz σ N k; omega⟩ ?_
        refine g_mmax hx (by omega) (by have := sco_rg (N := N) (h5 i (by omega)); omega) q410 ⟨Nat.le_of_ble_eq_true rfl, Nat.le_of_ble_eq_true rfl⟩ (Nat.le_of_ble_eq_true rfl) ⟨by show _ ≤ 2 + csz σ N k; omega, by show _ ≤ 6 + 100 * csz σ N k; omega⟩ dX0_gather_68 ?_
        refine g_top (b := mx (sco σ N) (inC σ N k) (i + 1)) (mx_y hP) ?_
        refine pq401 (fs' := [.ref v, .int (iI (mx (sco σ N) (inC σ N k) (i + 1))), .int (iI (bz (lkn σ N k i)))]) hx rfl dX0_gather_71 ha2 (Nat.le_of_ble_eq_true rfl) rfl ?_
        obtain ⟨M_11, e_12⟩ : ∃ M1 : gH, M1 = up M_9 a ((26, k), .inr (2, [.ref v, .int (iI (mx (sco σ N) (inC σ N k) (i + 1))), .int (iI (bz (lkn σ N k i)))])) := ⟨_, rfl⟩
        refine g_M e_12.symm ?_
        have hf3 : Fr (PK k) M_9 M_11 := by rw [e_12]; exact Fr.ofUp ha2 (Or.inl rfl)
        have hR3 : RC G g M_11 σ N lf := hR2.fr26 hf3 PK.ge
        have ha3 : M_11 a = some ((26, k), .inr (2, [.ref v, .int (iI (mx (sco σ N) (inC σ N k) (i + 1))), .int (iI (bz (lkn σ N k i)))])) := by rw [e_12]; exact up_s
        refine g_aload_n hx 2 dX0_gather_74 rfl rfl ?_
        refine g_aload_n hx 2 dX0_gather_75 rfl rfl ?_
        refine gq402 (v := .int (iI (bz (lkn σ N k i)))) hx rfl dX0_gather_76 ha3 rfl ?_
        refine g_if_neP hx 91 dX0_gather_79 (by decide) (fun c_79 => ?_) (fun c_79 => ?_)
        ·
          refine g_iconst hx dX0_gather_91 ?_
          refine g_goto hx 96 dX0_gather_92 (by decide) ?_
          refine g_top (b := bz (lkn σ N k (i + 1))) (bz_t (by first | (obtain ⟨q, h1, h2⟩ := c_79; exact ⟨q, by omega, h2⟩) | (exact ⟨i, by omega, hP, by omega⟩))).symm ?_
          refine pq402 (fs' := [.ref v, .int (iI (mx (sco σ N) (inC σ N k) (i + 1))), .int (iI (bz (lkn σ N k (i + 1))))]) hx rfl (bz_or _) dX0_gather_96 ha3 (Nat.le_of_ble_eq_true rfl) rfl ?_
          obtain ⟨M_13, e_14⟩ : ∃ M1 : gH, M1 = up M_11 a ((26, k), .inr (2, [.ref v, .int (iI (mx (sco σ N) (inC σ N k) (i + 1))), .int (iI (bz (lkn σ N k (i + 1))))])) := ⟨_, rfl⟩
          refine g_M e_14.symm ?_
          have hf4 : Fr (fun z => z = (26, k)) M_11 M_13 := by rw [e_14]; exact Fr.ofUp ha3 rfl
          have hf4k : Fr (PK k) M_11 M_13 := hf4.mono (fun z hz => Or.inl hz)
          have ha4 : M_13 a = some ((26, k), .inr (2, [.ref v, .int (iI (mx (sco σ N) (inC σ N k) (i + 1))), .int (iI (bz (lkn σ N k (i + 1))))])) := by rw [e_14]; exact up_s
          have hf34 : Fr (fun z => z = (26, k)) M_9 M_13 := (show Fr (fun z => z = (26, k)) M_9 M_11 by rw [e_12]; exact Fr.ofUp ha2 rfl).tr hf4
          have hA4 : AL G M_13 v (27, k) (28, k) (cn (inC σ N k) (i + 1)).toNat (fun j => g 10 ((fun j => if j = (cn (inC σ N k) i).toNat then i else me j) j)) := by rw [show (cn (inC σ N k) (i + 1)).toNat = (cn (inC σ N k) i).toNat + 1 by omega]; exact (hA2.fr hf34 (by simp) (by simp)).cg (fun j hj => by by_cases e : j = (cn (inC σ N k) i).toNat <;> simp [e])
          refine g_iinc (lv' := [(3, .int (iI ((i + 1 : Nat) : Int))), (4, .ref (g 10 i)), (2, .ref a), (0, .ref (g 0 0)), (1, .int (iI (k : Int)))]) (b := ((i + 1 : Nat) : Int)) hx 1 dX0_gather_99 rfl (by omega) (by decide) rfl ?_
          refine g_goto hx 10 dX0_gather_102 (by decide) ?_
          exact g_widen (by omega) (by omega) (g_lv [0, 2, 3, 4] rfl (ih (by omega) M_13 _ (hR3.fr26 hf4k PK.ge) (hf34 _ _ h212 (by simp)) ha4 hA4 (lists_y hl1 hP (by omega)) (hf1.tr (hf2.tr (hf3.tr hf4k)))))
        ·
          refine g_aload_n hx 3 dX0_gather_82 rfl rfl ?_
          refine g_aload hx 0 dX0_gather_83 rfl ?_
          refine g_pcallV (rest := [.ref a]) (na := 1) hx (kc_depthOf l G g M_11 σ N lf B hI hR3 i (by omega)) hR3.o rfl (lw_V q348 q350 qs7 q31 q351) rfl rfl (by decide +kernel) rfl ⟨Nat.le_of_ble_eq_true rfl, Nat.le_of_ble_eq_true rfl⟩ rfl (Nat.le_of_ble_eq_true rfl) dX0_gather_85 ⟨by show _ ≤ 2 + csz σ N k; omega, by show _ ≤ 6 + 100 * csz σ N k; omega⟩ ?_
          refine g_if_ne hx 95 (by omega) dX0_gather_88 (by decide) (fun c_88 => ?_) (fun c_88 => ?_)
          ·
            refine g_iconst hx dX0_gather_95 ?_
            refine g_top (b := bz (lkn σ N k (i + 1))) (bz_f (fun ⟨q, h1, h2, h3⟩ => by by_cases e : q = i; (· subst e; omega); (· exact c_79 ⟨q, by omega, h2, h3⟩))).symm ?_
            refine pq402 (fs' := [.ref v, .int (iI (mx (sco σ N) (inC σ N k) (i + 1))), .int (iI (bz (lkn σ N k (i + 1))))]) hx rfl (bz_or _) dX0_gather_96 ha3 (Nat.le_of_ble_eq_true rfl) rfl ?_
            obtain ⟨M_15, e_16⟩ : ∃ M1 : gH, M1 = up M_11 a ((26, k), .inr (2, [.ref v, .int (iI (mx (sco σ N) (inC σ N k) (i + 1))), .int (iI (bz (lkn σ N k (i + 1))))])) := ⟨_, rfl⟩
            refine g_M e_16.symm ?_
            have hf4 : Fr (fun z => z = (26, k)) M_11 M_15 := by rw [e_16]; exact Fr.ofUp ha3 rfl
            have hf4k : Fr (PK k) M_11 M_15 := hf4.mono (fun z hz => Or.inl hz)
            have ha4 : M_15 a = some ((26, k), .inr (2, [.ref v, .int (iI (mx (sco σ N) (inC σ N k) (i + 1))), .int (iI (bz (lkn σ N k (i + 1))))])) := by rw [e_16]; exact up_s
            have hf34 : Fr (fun z => z = (26, k)) M_9 M_15 := (show Fr (fun z => z = (26, k)) M_9 M_11 by rw [e_12]; exact Fr.ofUp ha2 rfl).tr hf4
            have hA4 : AL G M_15 v (27, k) (28, k) (cn (inC σ N k) (i + 1)).toNat (fun j => g 10 ((fun j => if j = (cn (inC σ N k) i).toNat then i else me j) j)) := by rw [show (cn (inC σ N k) (i + 1)).toNat = (cn (inC σ N k) i).toNat + 1 by omega]; exact (hA2.fr hf34 (by simp) (by simp)).cg (fun j hj => by by_cases e : j = (cn (inC σ N k) i).toNat <;> simp [e])
            refine g_iinc (lv' := [(3, .int (iI ((i + 1 : Nat) : Int))), (4, .ref (g 10 i)), (2, .ref a), (0, .ref (g 0 0)), (1, .int (iI (k : Int)))]) (b := ((i + 1 : Nat) : Int)) hx 1 dX0_gather_99 rfl (by omega) (by decide) rfl ?_
            refine g_goto hx 10 dX0_gather_102 (by decide) ?_
            exact g_widen (by omega) (by omega) (g_lv [0, 2, 3, 4] rfl (ih (by omega) M_15 _ (hR3.fr26 hf4k PK.ge) (hf34 _ _ h212 (by simp)) ha4 hA4 (lists_y hl1 hP (by omega)) (hf1.tr (hf2.tr (hf3.tr hf4k)))))
          ·
            refine g_iconst hx dX0_gather_91 ?_
            refine g_goto hx 96 dX0_gather_92 (by decide) ?_
            refine g_top (b := bz (lkn σ N k (i + 1))) (bz_t (by first | (obtain ⟨q, h1, h2⟩ := c_79; exact ⟨q, by omega, h2⟩) | (exact ⟨i, by omega, hP, by omega⟩))).symm ?_
            refine pq402 (fs' := [.ref v, .int (iI (mx (sco σ N) (inC σ N k) (i + 1))), .int (iI (bz (lkn σ N k (i + 1))))]) hx rfl (bz_or _) dX0_gather_96 ha3 (Nat.le_of_ble_eq_true rfl) rfl ?_
            obtain ⟨M_17, e_18⟩ : ∃ M1 : gH, M1 = up M_11 a ((26, k), .inr (2, [.ref v, .int (iI (mx (sco σ N) (inC σ N k) (i + 1))), .int (iI (bz (lkn σ N k (i + 1))))])) := ⟨_, rfl⟩
            refine g_M e_18.symm ?_
            have hf4 : Fr (fun z => z = (26, k)) M_11 M_17 := by rw [e_18]; exact Fr.ofUp ha3 rfl
            have hf4k : Fr (PK k) M_11 M_17 := hf4.mono (fun z hz => Or.inl hz)
            have ha4 : M_17 a = some ((26, k), .inr (2, [.ref v, .int (iI (mx (sco σ N) (inC σ N k) (i + 1))), .int (iI (bz (lkn σ N k (i + 1))))])) := by rw [e_18]; exact up_s
            have hf34 : Fr (fun z => z = (26, k)) M_9 M_17 := (show Fr (fun z => z = (26, k)) M_9 M_11 by rw [e_12]; exact Fr.ofUp ha2 rfl).tr hf4
            have hA4 : AL G M_17 v (27, k) (28, k) (cn (inC σ N k) (i + 1)).toNat (fun j => g 10 ((fun j => if j = (cn (inC σ N k) i).toNat then i else me j) j)) := by rw [show (cn (inC σ N k) (i + 1)).toNat = (cn (inC σ N k) i).toNat + 1 by omega]; exact (hA2.fr hf34 (by simp) (by simp)).cg (fun j hj => by by_cases e : j = (cn (inC σ N k) i).toNat <;> simp [e])
            refine g_iinc (lv' := [(3, .int (iI ((i + 1 : Nat) : Int))), (4, .ref (g 10 i)), (2, .ref a), (0, .ref (g 0 0)), (1, .int (iI (k : Int)))]) (b := ((i + 1 : Nat) : Int)) hx 1 dX0_gather_99 rfl (by omega) (by decide) rfl ?_
            refine g_goto hx 10 dX0_gather_102 (by decide) ?_
            exact g_widen (by omega) (by omega) (g_lv [0, 2, 3, 4] rfl (ih (by omega) M_17 _ (hR3.fr26 hf4k PK.ge) (hf34 _ _ h212 (by simp)) ha4 hA4 (lists_y hl1 hP (by omega)) (hf1.tr (hf2.tr (hf3.tr hf4k)))))
      ·
        have hlab := hL i (by omega)
        have hP : ¬ inC σ N k i := fun h => by have h : lab σ N i = _ := h; omega
        have hcy := cn_n' hP
        refine g_goto hx 99 dX0_gather_31 (by decide) ?_
        refine g_iinc (lv' := [(3, .int (iI ((i + 1 : Nat) : Int))), (2, .ref a), (0, .ref (g 0 0)), (1, .int (iI (k : Int)))]) (b := ((i + 1 : Nat) : Int)) hx 0 dX0_gather_99 rfl (by omega) (by decide) rfl ?_
        refine g_goto hx 10 dX0_gather_102 (by decide) ?_
        exact g_widen (by omega) (by omega) (g_lv [0, 1, 2, 3] rfl (ih (by omega) M1 me hR1 h21 (by rw [← mx_n hP, ← bz_c (lkn_n hP)]; exact ha1) (by rw [← hcy]; exact hA1) (lists_n hl1 hP) hf1))
  exact g_lv [0, 1, 2, 3] rfl (lp 0 (Nat.zero_le _) M_6 (fun _ => 0) (hR.fr26 hF2 PK.ge) (hF2 _ _ hcf (by simp [PK])) ha2 hA2 lists_0 hF2)
