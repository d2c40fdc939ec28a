/-! THE CLASS: what is asked of cases -/
set_option maxRecDepth 100000
theorem case_head {σ : sT} {N k : Nat} {me : Nat → Nat} (hL : LI σ N (lab σ N)) (hk : k < N) (hc : isC σ N k) (hl : lists (inC σ N k) N me) : me 0 = k ∧ 1 ≤ csz σ N k := by
  have h0 : cn (inC σ N k) k = 0 := cn_0 k (fun i hi h => by have h1 := hL.rg (show i < N by omega); have h : lab σ N i = _ := h; omega)
  obtain ⟨j, h1, h2, h3⟩ := lists_of hl hk hc
  have hz := csz_c σ N k
  have : j = 0 := by omega
  subst this
  exact ⟨h3, by omega⟩
theorem insO_sur {s : Nat → Int} {o : Nat → Nat} {i n : Nat} (hi : i < n) (q : Nat) (hq : q < n) : ∃ j, j < n ∧ insO s o i (o i) j = o q := by
  have hp := insp_le s o (o i) i
  by_cases e1 : q < insp s o (o i) i
  · exact ⟨q, hq, by unfold insO; rw [if_pos e1]⟩
  · by_cases e2 : q = i
    · exact ⟨insp s o (o i) i, by omega, by unfold insO; rw [if_neg (by omega), if_pos rfl, e2]⟩
    · by_cases e3 : q < i
      · exact ⟨q + 1, by omega, by unfold insO; rw [if_neg (by omega), if_neg (by omega), if_pos (by omega)]; rfl⟩
      · exact ⟨q, hq, by unfold insO; rw [if_neg (by omega), if_neg (by omega), if_neg (by omega)]⟩
theorem srt_sur {s : Nat → Int} {o : Nat → Nat} {n : Nat} (i : Nat) (hi : i ≤ n) (q : Nat) (hq : q < n) : ∃ j, j < n ∧ srt s o i j = o q := by
  induction i with
  | zero => exact ⟨q, hq, rfl⟩
  | succ i ih =>
    obtain ⟨j, h1, h2⟩ := ih (by omega)
    obtain ⟨j', h3, h4⟩ := insO_sur (s := s) (o := srt s o i) (show i < n by omega) j h1
    exact ⟨j', h3, h4.trans h2⟩
theorem ordr_sur {σ : sT} {N k : Nat} (hk : k < N) (hc : isC σ N k) : ∃ j, j < ncs σ N ∧ ordr σ N j = k := by
  obtain ⟨q, h1, h2, h3⟩ := lists_of (nth_l (isC σ N) N) hk hc
  have hn := ncs_c σ N
  obtain ⟨j, h4, h5⟩ := srt_sur (s := csc σ N) (o := nth (isC σ N) N) (n := ncs σ N) (ncs σ N) (Nat.le_refl _) q (by omega)
  exact ⟨j, h4, h5.trans h3⟩
theorem PM50 {M M' : gH} (h : Fr PM M M') : Fr (fun z => z.1 < 50) M M' := h.mono (fun z hz => hz.2)
theorem kc_number (l : Launch) (G : gG) (g : gA2) (M : gH) (σ : sT) (N : Nat) (lf : Int) (B : Nat) (hI : Iv σ N B) (hR : RC G g M σ N lf) (a k : Nat) (hce : CSE G g M σ N a k) (hk : k < N) (hc : isC σ N k) (hLI : LI σ N (lab σ N)) : GMet l yX4_number (ws_ yX4_number cX4_number 1 (some .int)) ({ frames := 3, cells := 0, slots := 0, locals := 64 } : Room) G [.ref a] M (pI M (k : Int)) 0 0 := by
  refine g_start (by decide) (Nat.le_of_ble_eq_true rfl) (fun x hx => ?_)
  obtain ⟨v, me, hcell, hAL, hl⟩ := hce
  have hh := case_head hLI hk hc hl
  refine g_aload_n hx 0 dX4_number_0 rfl rfl ?_
  refine gq399 (v := .ref v) hx rfl dX4_number_1 hcell rfl ?_
  refine g_iconst hx dX4_number_4 ?_
  refine g_st (st' := [.int (iI ((0 : Nat) : Int)), .ref v]) rfl ?_
  refine g_pcallV (rest := []) (na := 1) hx (k_get l G M v (27, k) (28, k) (csz σ N k) (fun j => g 10 (me j)) hAL 0 (by omega)) ((al_cell hAL).choose_spec.choose_spec) rfl (lw_V q423 q165 q166 q34 q167) rfl rfl (by decide +kernel) rfl ⟨Nat.le_of_ble_eq_true rfl, Nat.le_of_ble_eq_true rfl⟩ rfl (Nat.le_of_ble_eq_true rfl) dX4_number_5 ⟨Nat.zero_le _, Nat.zero_le _⟩ ?_
  refine g_cast hx (hR.al (i := me 0) (by omega)) rfl q424 dX4_number_8 ?_
  refine gq208 (v := .int (iI ((me 0) : Int))) hx rfl dX4_number_11 (hR.al (i := me 0) (by omega)) rfl ?_
  exact g_iret hx (Nat.zero_le _) (Nat.zero_le _) dX4_number_14 (pI_ok (by rw [hh.1]))
theorem kc_minutes (l : Launch) (G : gG) (g : gA2) (M : gH) (σ : sT) (N : Nat) (lf : Int) (B : Nat) (hI : Iv σ N B) (hR : RC G g M σ N lf) (a k : Nat) (hce : CSE G g M σ N a k) (hk : k < N) : GMet l yX4_minutes (ws_ yX4_minutes cX4_minutes 1 (some .int)) ({ frames := 1, cells := 0, slots := 0, locals := 20 } : Room) G [.ref a] M (pI M (5 + 2 * (csz σ N k : Int))) 0 0 := by
  refine g_start (by decide) (Nat.le_of_ble_eq_true rfl) (fun x hx => ?_)
  obtain ⟨v, me, hcell, hAL, hl⟩ := hce
  refine g_iconst hx dX4_minutes_0 ?_
  refine g_iconst hx dX4_minutes_1 ?_
  refine g_aload_n hx 0 dX4_minutes_2 rfl rfl ?_
  refine gq399 (v := .ref v) hx rfl dX4_minutes_3 hcell rfl ?_
  refine g_pcallV (rest := [.int (iI 2), .int (iI 5)]) (na := 0) hx (k_size l G M v (27, k) (28, k) (csz σ N k) (fun j => g 10 (me j)) hAL) ((al_cell hAL).choose_spec.choose_spec) rfl (lw_V q437 q161 q162 q34 q163) rfl rfl (by decide +kernel) rfl ⟨Nat.le_of_ble_eq_true rfl, Nat.le_of_ble_eq_true rfl⟩ rfl (Nat.le_of_ble_eq_true rfl) dX4_minutes_6 ⟨Nat.zero_le _, Nat.zero_le _⟩ ?_
  refine g_imul hx dX4_minutes_9 ?_
  refine g_iadd hx dX4_minutes_10 ?_
  exact g_iret hx (Nat.zero_le _) (Nat.zero_le _) dX4_minutes_11 (pI_ok rfl)
theorem CSE.cell {G : gG} {g : gA2} {M : gH} {σ : sT} {N a k : Nat} (h : CSE G g M σ N a k) : ∃ v, M a = some ((26, k), .inr (2, [.ref v, .int (iI (csc σ N k)), .int (iI (bz (clk σ N k)))])) := by
  obtain ⟨v, me, h1, -⟩ := h
  exact ⟨v, h1⟩
noncomputable def orderS (σ : sT) (N : Nat) (a : Int) : Int := if 0 ≤ a ∧ a < ncs σ N then (ordr σ N a.toNat : Int) else -1
theorem kc_order (l : Launch) (G : gG) (g : gA2) (M : gH) (σ : sT) (N : Nat) (lf : Int) (B : Nat) (hI : Iv σ N B) (hR : RC G g M σ N lf) (a : Int) (ha : -2147483648 ≤ a ∧ a ≤ 2147483647) : GMet l yX0_order (ws_ yX0_order cX0_order 2 (some .int)) ({ frames := 9, cells := 256, slots := 13184, locals := 219 } : Room) G [.ref (g 0 0), .int (iI a)] M (MC G M (g 0 0) (orderS σ N a) σ N) 256 13184 := by
  refine g_start (by decide) (Nat.le_of_ble_eq_true rfl) (fun x hx => ?_)
  have hb0 := hI.1
  refine g_aload_n hx 0 dX0_order_0 rfl rfl ?_
  refine g_callV (rest := []) (na := 0) hx (kc_makes l G g M σ N lf B hI hR) hR.o rfl (lw_V q371 q373 qs10 q31 q374) rfl rfl (by decide +kernel) rfl ⟨Nat.le_of_ble_eq_true rfl, Nat.le_of_ble_eq_true rfl⟩ rfl (Nat.le_of_ble_eq_true rfl) dX0_order_1 ⟨Nat.le_of_ble_eq_true rfl, Nat.le_of_ble_eq_true rfl⟩ (fun v_1 M_2 h_3 => ?_)
  obtain ⟨rfl, hR1, ⟨cad, ⟨cf, h21, hL⟩, hA1, hcs, hIl⟩, hf1⟩ := h_3
  have hm := ncs_c σ N
  refine g_iload_n hx 1 dX0_order_4 rfl rfl ?_
  refine g_iconst hx dX0_order_5 ?_
  refine g_aload_n hx 0 dX0_order_6 rfl rfl ?_
  refine gq94 (v := .ref (g 20 0)) hx rfl dX0_order_7 hR1.o rfl ?_
  refine g_pcallV (rest := [.int (iI 0), .int (iI a)]) (na := 0) hx (k_size l G M_2 (g 20 0) (20, 0) (20, 1) (ncs σ N) (fun j => cad (ordr σ N j)) hA1) ((al_cell hA1).choose_spec.choose_spec) rfl (lw_V q160 q161 q162 q34 q163) rfl rfl (by decide +kernel) rfl ⟨Nat.le_of_ble_eq_true rfl, Nat.le_of_ble_eq_true rfl⟩ rfl (Nat.le_of_ble_eq_true rfl) dX0_order_10 ⟨Nat.le_of_ble_eq_true rfl, Nat.le_of_ble_eq_true rfl⟩ ?_
  refine g_iconst hx dX0_order_13 ?_
  refine g_isub hx dX0_order_14 ?_
  refine g_pcallS (rest := []) (na := 3) hx (k_isIn l G M_2 a 0 (((ncs σ N) : Int) - 1) (by omega) (by omega) (by omega)) (lw_S q145 q146 q31 q147) rfl rfl (by decide +kernel) rfl ⟨Nat.le_of_ble_eq_true rfl, Nat.le_of_ble_eq_true rfl⟩ rfl (Nat.le_of_ble_eq_true rfl) dX0_order_15 ⟨Nat.le_of_ble_eq_true rfl, Nat.le_of_ble_eq_true rfl⟩ ?_
  refine g_if_eqP hx 38 dX0_order_18 (by decide) (fun c_18 => ?_) (fun c_18 => ?_)
  ·
    refine g_iconst hx dX0_order_38 ?_
    exact g_iret hx (Nat.le_of_ble_eq_true rfl) (Nat.le_of_ble_eq_true rfl) dX0_order_39 ⟨congrArg (fun z => some (Value.int (iI z))) (by unfold orderS; rw [if_neg (by omega)]), ⟨g, lf, rfl, hR1⟩, PM50 hf1⟩
  ·
    obtain ⟨j, rfl⟩ : ∃ j : Nat, a = (j : Int) := ⟨a.toNat, by omega⟩
    refine g_aload_n hx 0 dX0_order_21 rfl rfl ?_
    refine gq94 (v := .ref (g 20 0)) hx rfl dX0_order_22 hR1.o rfl ?_
    refine g_iload_n hx 1 dX0_order_25 rfl rfl ?_
    refine g_pcallV (rest := []) (na := 1) hx (k_get l G M_2 (g 20 0) (20, 0) (20, 1) (ncs σ N) (fun j => cad (ordr σ N j)) hA1 j (by omega)) ((al_cell hA1).choose_spec.choose_spec) rfl (lw_V q164 q165 q166 q34 q167) rfl rfl (by decide +kernel) rfl ⟨Nat.le_of_ble_eq_true rfl, Nat.le_of_ble_eq_true rfl⟩ rfl (Nat.le_of_ble_eq_true rfl) dX0_order_26 ⟨Nat.le_of_ble_eq_true rfl, Nat.le_of_ble_eq_true rfl⟩ ?_
    obtain ⟨c, hc⟩ : ∃ z, z = ordr σ N j := ⟨_, rfl⟩
    have hck := ordr_ok σ N j (by omega)
    rw [← hc] at hck
    refine g_st (st' := [.ref (cad c)]) (by simp only [← hc]) ?_
    obtain ⟨vc, hcellc⟩ := CSE.cell (hcs c hck.1 hck.2)
    refine g_cast hx hcellc rfl q391 dX0_order_29 ?_
    refine g_pcallV (rest := []) (na := 0) hx (kc_number l G g M_2 σ N lf B hI hR1 (cad c) c (hcs c hck.1 hck.2) hck.1 hck.2 hIl.1) ((CSE.cell (hcs c hck.1 hck.2)).choose_spec) rfl (lw_V q419 q420 q421 q44 q422) rfl rfl (by decide +kernel) rfl ⟨Nat.le_of_ble_eq_true rfl, Nat.le_of_ble_eq_true rfl⟩ rfl (Nat.le_of_ble_eq_true rfl) dX0_order_32 ⟨Nat.le_of_ble_eq_true rfl, Nat.le_of_ble_eq_true rfl⟩ ?_
    refine g_goto hx 39 dX0_order_35 (by decide) ?_
    exact g_iret hx (Nat.le_of_ble_eq_true rfl) (Nat.le_of_ble_eq_true rfl) dX0_order_39 ⟨congrArg (fun z => some (Value.int (iI z))) (by unfold orderS; rw [if_pos (by omega), Int.toNat_natCast, hc]), ⟨g, lf, rfl, hR1⟩, PM50 hf1⟩
noncomputable def countS (σ : sT) (N : Nat) (a : Int) : Int := if a = 0 then σ 0 0 else if a = 1 then (N : Int) else if a = 2 then cn (fun i => σ 10 i = 0) N else if a = 3 then (ncs σ N : Int) else if a = 4 then σ 0 4 else if a = 5 then σ 0 5 else -1
theorem kc_count (l : Launch) (G : gG) (g : gA2) (M : gH) (σ : sT) (N : Nat) (lf : Int) (B : Nat) (hI : Iv σ N B) (hR : RC G g M σ N lf) (a : Int) (ha : -2147483648 ≤ a ∧ a ≤ 2147483647) : GMet l yX0_count (ws_ yX0_count cX0_count 4 (some .int)) ({ frames := 9, cells := 256, slots := 13184, locals := 219 } : Room) G [.ref (g 0 0), .int (iI a)] M (MC G M (g 0 0) (countS σ N a) σ N) 256 13184 := by
  refine g_start (by decide) (Nat.le_of_ble_eq_true rfl) (fun x hx => ?_)
  have hb0 := hI.1
  refine g_iconst hx dX0_count_0 ?_
  refine g_istore_n (lv' := [(2, .int (iI 0)), (0, .ref (g 0 0)), (1, .int (iI a))]) hx dX0_count_1 rfl (by decide) rfl ?_
  refine g_iconst hx dX0_count_2 ?_
  refine g_istore_n (lv' := [(3, .int (iI 0)), (2, .int (iI 0)), (0, .ref (g 0 0)), (1, .int (iI a))]) hx dX0_count_3 rfl (by decide) rfl ?_
  have lp_1 : ∀ k : Nat, k ≤ N → GW x (gQx x (MC G M (g 0 0) (countS σ N a) σ N) 256 13184) M 0 0 4 [(3, .int (iI (k : Int))), (2, .int (iI (cn (fun i => σ 10 i = 0) k))), (0, .ref (g 0 0)), (1, .int (iI a))] [] := by
    refine down N (fun k hk_k ih_k => ?_)
    refine g_iload_n hx 0 dX0_count_4 rfl rfl ?_
    refine g_aload_n hx 2 dX0_count_5 rfl rfl ?_
    refine gq85 (v := .ref (g 1 0)) hx rfl dX0_count_6 hR.o rfl ?_
    refine g_pcallV (rest := [.int (iI (k : Int))]) (na := 0) hx (k_size l G M (g 1 0) (1, 0) (1, 1) N (g 10) hR.ls) ((al_cell hR.ls).choose_spec.choose_spec) rfl (lw_V q160 q161 q162 q34 q163) rfl rfl (by decide +kernel) rfl ⟨Nat.le_of_ble_eq_true rfl, Nat.le_of_ble_eq_true rfl⟩ rfl (Nat.le_of_ble_eq_true rfl) dX0_count_9 ⟨Nat.zero_le _, Nat.zero_le _⟩ ?_
    refine g_icmp_ge hx 46 (by omega) (by omega) dX0_count_12 (by decide) (fun c_12 => ?_) (fun c_12 => ?_)
    ·
      refine g_aload_n hx 2 dX0_count_46 rfl rfl ?_
      refine g_callV (rest := []) (na := 0) hx (kc_makes l G g M σ N lf B hI hR) hR.o rfl (lw_V q371 q373 qs10 q31 q374) rfl rfl (by decide +kernel) rfl ⟨Nat.le_of_ble_eq_true rfl, Nat.le_of_ble_eq_true rfl⟩ rfl (Nat.le_of_ble_eq_true rfl) dX0_count_47 ⟨Nat.le_of_ble_eq_true rfl, Nat.le_of_ble_eq_true rfl⟩ (fun v_2 M_3 h_4 => ?_)
      obtain ⟨rfl, hR1, ⟨cad, ⟨cf, h21, hL⟩, hA1, hcs, hIl⟩, hf1⟩ := h_4
      have hm := ncs_c σ N
      refine g_iload_n hx 3 dX0_count_50 rfl rfl ?_
      by_cases c_51_0 : a = 0
      ·
        refine g_tsAt hx 0 88 c_51_0 (by decide) dX0_count_51 (by rfl) (by decide) ?_
        refine g_aload_n hx 2 dX0_count_88 rfl rfl ?_
        refine gq81 (v := .int (iI (σ 0 0))) hx rfl dX0_count_89 hR1.o rfl ?_
        exact g_iret hx (Nat.le_of_ble_eq_true rfl) (Nat.le_of_ble_eq_true rfl) dX0_count_92 ⟨congrArg (fun z => some (Value.int (iI z))) (by unfold countS; rw [if_pos (by omega)]), ⟨g, lf, rfl, hR1⟩, PM50 hf1⟩
      by_cases c_51_1 : a = 1
      ·
        refine g_tsAt hx 1 93 c_51_1 (by decide) dX0_count_51 (by rfl) (by decide) ?_
        refine g_aload_n hx 2 dX0_count_93 rfl rfl ?_
        refine gq85 (v := .ref (g 1 0)) hx rfl dX0_count_94 hR1.o rfl ?_
        refine g_pcallV (rest := []) (na := 0) hx (k_size l G M_3 (g 1 0) (1, 0) (1, 1) N (g 10) hR1.ls) ((al_cell hR1.ls).choose_spec.choose_spec) rfl (lw_V q160 q161 q162 q34 q163) rfl rfl (by decide +kernel) rfl ⟨Nat.le_of_ble_eq_true rfl, Nat.le_of_ble_eq_true rfl⟩ rfl (Nat.le_of_ble_eq_true rfl) dX0_count_97 ⟨Nat.le_of_ble_eq_true rfl, Nat.le_of_ble_eq_true rfl⟩ ?_
        exact g_iret hx (Nat.le_of_ble_eq_true rfl) (Nat.le_of_ble_eq_true rfl) dX0_count_100 ⟨congrArg (fun z => some (Value.int (iI z))) (by unfold countS; rw [if_neg (by omega), if_pos (by omega)]), ⟨g, lf, rfl, hR1⟩, PM50 hf1⟩
      by_cases c_51_2 : a = 2
      ·
        refine g_tsAt hx 2 101 c_51_2 (by decide) dX0_count_51 (by rfl) (by decide) ?_
        refine g_iload_n hx 1 dX0_count_101 rfl rfl ?_
        exact g_iret hx (Nat.le_of_ble_eq_true rfl) (Nat.le_of_ble_eq_true rfl) dX0_count_102 ⟨congrArg (fun z => some (Value.int (iI z))) (by unfold countS; rw [if_neg (by omega), if_neg (by omega), if_pos (by omega)]; rw [show N = k by omega]), ⟨g, lf, rfl, hR1⟩, PM50 hf1⟩
      by_cases c_51_3 : a = 3
      ·
        refine g_tsAt hx 3 103 c_51_3 (by decide) dX0_count_51 (by rfl) (by decide) ?_
        refine g_aload_n hx 2 dX0_count_103 rfl rfl ?_
        refine gq94 (v := .ref (g 20 0)) hx rfl dX0_count_104 hR1.o rfl ?_
        refine g_pcallV (rest := []) (na := 0) hx (k_size l G M_3 (g 20 0) (20, 0) (20, 1) (ncs σ N) (fun j => cad (ordr σ N j)) hA1) ((al_cell hA1).choose_spec.choose_spec) rfl (lw_V q160 q161 q162 q34 q163) rfl rfl (by decide +kernel) rfl ⟨Nat.le_of_ble_eq_true rfl, Nat.le_of_ble_eq_true rfl⟩ rfl (Nat.le_of_ble_eq_true rfl) dX0_count_107 ⟨Nat.le_of_ble_eq_true rfl, Nat.le_of_ble_eq_true rfl⟩ ?_
        exact g_iret hx (Nat.le_of_ble_eq_true rfl) (Nat.le_of_ble_eq_true rfl) dX0_count_110 ⟨congrArg (fun z => some (Value.int (iI z))) (by unfold countS; rw [if_neg (by omega), if_neg (by omega), if_neg (by omega), if_pos (by omega)]), ⟨g, lf, rfl, hR1⟩, PM50 hf1⟩
      by_cases c_51_4 : a = 4
      ·
        refine g_tsAt hx 4 111 c_51_4 (by decide) dX0_count_51 (by rfl) (by decide) ?_
        refine g_aload_n hx 2 dX0_count_111 rfl rfl ?_
        refine gq89 (v := .int (iI (σ 0 4))) hx rfl dX0_count_112 hR1.o rfl ?_
        exact g_iret hx (Nat.le_of_ble_eq_true rfl) (Nat.le_of_ble_eq_true rfl) dX0_count_115 ⟨congrArg (fun z => some (Value.int (iI z))) (by unfold countS; rw [if_neg (by omega), if_neg (by omega), if_neg (by omega), if_neg (by omega), if_pos (by omega)]), ⟨g, lf, rfl, hR1⟩, PM50 hf1⟩
      by_cases c_51_5 : a = 5
      ·
        refine g_tsAt hx 5 116 c_51_5 (by decide) dX0_count_51 (by rfl) (by decide) ?_
        refine g_aload_n hx 2 dX0_count_116 rfl rfl ?_
        refine gq93 (v := .int (iI (σ 0 5))) hx rfl dX0_count_117 hR1.o rfl ?_
        exact g_iret hx (Nat.le_of_ble_eq_true rfl) (Nat.le_of_ble_eq_true rfl) dX0_count_120 ⟨congrArg (fun z => some (Value.int (iI z))) (by unfold countS; rw [if_neg (by omega), if_neg (by omega), if_neg (by omega), if_neg (by omega), if_neg (by omega), if_pos (by omega)]), ⟨g, lf, rfl, hR1⟩, PM50 hf1⟩
      refine g_tsOut hx 121 (by omega) (by omega) dX0_count_51 (by decide) ?_
      refine g_iconst hx dX0_count_121 ?_
      exact g_iret hx (Nat.le_of_ble_eq_true rfl) (Nat.le_of_ble_eq_true rfl) dX0_count_122 ⟨congrArg (fun z => some (Value.int (iI z))) (by unfold countS; rw [if_neg (by omega), if_neg (by omega), if_neg (by omega), if_neg (by omega), if_neg (by omega), if_neg (by omega)]), ⟨g, lf, rfl, hR1⟩, PM50 hf1⟩
    ·
      have hb := (hI.2.1 k (by omega)).1; unfold okA at hb
      refine g_iload_n hx 1 dX0_count_15 rfl rfl ?_
      refine g_aload_n hx 2 dX0_count_16 rfl rfl ?_
      refine gq85 (v := .ref (g 1 0)) hx rfl dX0_count_17 hR.o rfl ?_
      refine g_iload_n hx 0 dX0_count_20 rfl rfl ?_
      refine g_pcallV (rest := [.int (iI (cn (fun i => σ 10 i = 0) k))]) (na := 1) hx (k_get l G M (g 1 0) (1, 0) (1, 1) N (g 10) hR.ls k (by omega)) ((al_cell hR.ls).choose_spec.choose_spec) rfl (lw_V q164 q165 q166 q34 q167) rfl rfl (by decide +kernel) rfl ⟨Nat.le_of_ble_eq_true rfl, Nat.le_of_ble_eq_true rfl⟩ rfl (Nat.le_of_ble_eq_true rfl) dX0_count_21 ⟨Nat.zero_le _, Nat.zero_le _⟩ ?_
      refine g_cast hx (hR.al (i := k) (by omega)) rfl q178 dX0_count_24 ?_
      refine gq230 (v := .int (iI (σ 10 k))) hx rfl dX0_count_27 (hR.al (i := k) (by omega)) rfl ?_
      refine g_if_ne hx 37 (by omega) dX0_count_30 (by decide) (fun c_30 => ?_) (fun c_30 => ?_)
      ·
        refine g_iconst hx dX0_count_37 ?_
        refine g_iadd hx dX0_count_38 ?_
        refine g_top (b := cn (fun i => σ 10 i = 0) (k + 1)) (cn_n (P := (fun i => σ 10 i = 0)) (k := k) (fun h => c_30 h)) ?_
        refine g_istore_n (lv' := [(2, .int (iI (cn (fun i => σ 10 i = 0) (k + 1)))), (3, .int (iI (k : Int))), (0, .ref (g 0 0)), (1, .int (iI a))]) hx dX0_count_39 rfl (by decide) rfl ?_
        refine g_iinc (lv' := [(3, .int (iI ((k + 1 : Nat) : Int))), (2, .int (iI (cn (fun i => σ 10 i = 0) (k + 1)))), (0, .ref (g 0 0)), (1, .int (iI a))]) (b := ((k + 1 : Nat) : Int)) hx 1 dX0_count_40 rfl (by omega) (by decide) rfl ?_
        refine g_goto hx 4 dX0_count_43 (by decide) ?_
        exact g_lv [0, 1, 2, 3] rfl (ih_k (by omega))
      ·
        refine g_iconst hx dX0_count_33 ?_
        refine g_goto hx 38 dX0_count_34 (by decide) ?_
        refine g_iadd hx dX0_count_38 ?_
        refine g_top (b := cn (fun i => σ 10 i = 0) (k + 1)) (cn_y (P := (fun i => σ 10 i = 0)) (k := k) c_30) ?_
        refine g_istore_n (lv' := [(2, .int (iI (cn (fun i => σ 10 i = 0) (k + 1)))), (3, .int (iI (k : Int))), (0, .ref (g 0 0)), (1, .int (iI a))]) hx dX0_count_39 rfl (by decide) rfl ?_
        refine g_iinc (lv' := [(3, .int (iI ((k + 1 : Nat) : Int))), (2, .int (iI (cn (fun i => σ 10 i = 0) (k + 1)))), (0, .ref (g 0 0)), (1, .int (iI a))]) (b := ((k + 1 : Nat) : Int)) hx 1 dX0_count_40 rfl (by omega) (by decide) rfl ?_
        refine g_goto hx 4 dX0_count_43 (by decide) ?_
        exact g_lv [0, 1, 2, 3] rfl (ih_k (by omega))
  exact g_lv [0, 1, 2, 3] rfl (lp_1 0 (Nat.zero_le _))
noncomputable def toldS (σ : sT) (N i : Nat) (w : Int) : Int := if w = 0 then σ 1 i else if w = 1 then σ 2 i else if w = 2 then σ 3 i else if w = 3 then σ 4 i else if w = 4 then σ 5 i else if w = 5 then σ 8 i else if w = 6 then σ 10 i else if w = 7 then σ 6 i else if w = 8 then σ 7 i else if w = 9 then sco σ N i else if w = 10 then (dep σ N i : Int) else if w = 11 then pop ((σ 11 i).toNat ||| (σ 12 i).toNat) else if w = 12 then lab σ N i else -1
theorem pop_all {lk : Nat → Nat} {vb : Nat → Int} {n : Nat} (hl : ∀ j, j < n → lk j < 10 ∧ (vb j = 0 ∨ vb j = 1)) (hi : ∀ j j', j < n → j' < n → lk j = lk j' → j = j') : pop (msk lk vb 1 n ||| msk lk vb 0 n) = (n : Int) := by
  have h1 := pop_msk lk vb 1 n (fun j hj => (hl j hj).1) hi
  have h0 := pop_msk lk vb 0 n (fun j hj => (hl j hj).1) hi
  have e : pop (msk lk vb 1 n ||| msk lk vb 0 n) = pop (msk lk vb 1 n) + pop (msk lk vb 0 n) := by
    unfold pop
    refine cn_or 10 (fun i _ => by rw [Nat.testBit_or, Bool.or_eq_true]) (fun i _ h => ?_)
    obtain ⟨q, q1, q2, q3⟩ := (msk_tb lk vb 1 n i).mp h.1
    obtain ⟨r, r1, r2, r3⟩ := (msk_tb lk vb 0 n i).mp h.2
    have := hi q r q1 r1 (q3.trans r3.symm)
    subst this
    omega
  have e2 : cn (fun q => vb q = 1) n + cn (fun q => vb q = 0) n = (n : Int) := by
    have h := cn_or (P'' := fun _ => True) (P := fun q => vb q = 1) (P' := fun q => vb q = 0) n (fun i hi' => by have := (hl i hi').2; simp; omega) (fun i _ => by omega)
    rw [← h]
    clear h e h1 h0 hl hi
    induction n with
    | zero => rfl
    | succ n ih => simp only [cn]; rw [ih, bz_t trivial]; omega
  omega
theorem kc_toldY (l : Launch) (G : gG) (g : gA2) (M : gH) (σ : sT) (N : Nat) (lf : Int) (B : Nat) (hI : Iv σ N B) (hR : RC G g M σ N lf) (i : Nat) (hi : i < N) (c : Int) (hc : -2147483648 ≤ c ∧ c ≤ 2147483647) : GMet l yX0_told (ws_ yX0_told cX0_told 4 (some .int)) ({ frames := 9, cells := 256, slots := 13184, locals := 219 } : Room) G [.ref (g 0 0), .int (iI (i : Int)), .int (iI c)] M (MC G M (g 0 0) (toldS σ N i c) σ N) 256 13184 := by
  refine g_start (by decide) (Nat.le_of_ble_eq_true rfl) (fun x hx => ?_)
  have hb0 := hI.1
  have hb := (hI.2.1 i hi).1
  unfold okA at hb
  refine g_aload_n hx 0 dX0_told_0 rfl rfl ?_
  refine g_iload_n hx 1 dX0_told_1 rfl rfl ?_
  refine g_pcallV (rest := []) (na := 1) hx (k_atY l G g M σ N lf B hI hR i (by omega)) hR.o rfl (lw_V q313 q315 qs5 q31 q316) rfl rfl (by decide +kernel) rfl ⟨Nat.le_of_ble_eq_true rfl, Nat.le_of_ble_eq_true rfl⟩ rfl (Nat.le_of_ble_eq_true rfl) dX0_told_2 ⟨Nat.zero_le _, Nat.zero_le _⟩ ?_
  refine g_astore_n (lv' := [(3, .ref (g 10 i)), (0, .ref (g 0 0)), (1, .int (iI (i : Int))), (2, .int (iI c))]) hx dX0_told_5 rfl (by decide) rfl ?_
  refine g_aload_n hx 0 dX0_told_6 rfl rfl ?_
  refine g_ifnonnull hx 12 dX0_told_7 (by decide) ?_
  refine g_iload_n hx 3 dX0_told_12 rfl rfl ?_
  by_cases c_13_0 : c = 0
  ·
    refine g_tsAt hx 0 80 c_13_0 (by decide) dX0_told_13 (by rfl) (by decide) ?_
    refine g_aload_n hx 0 dX0_told_80 rfl rfl ?_
    refine gq211 (v := .int (iI (σ 1 i))) hx rfl dX0_told_81 (hR.al (i := i) (by omega)) rfl ?_
    exact g_iret hx (Nat.le_of_ble_eq_true rfl) (Nat.le_of_ble_eq_true rfl) dX0_told_84 ⟨congrArg (fun z => some (Value.int (iI z))) (by unfold toldS; rw [if_pos (by omega)]), ⟨g, lf, rfl, hR⟩, Fr.rf⟩
  by_cases c_13_1 : c = 1
  ·
    refine g_tsAt hx 1 85 c_13_1 (by decide) dX0_told_13 (by rfl) (by decide) ?_
    refine g_aload_n hx 0 dX0_told_85 rfl rfl ?_
    refine gq213 (v := .int (iI (σ 2 i))) hx rfl dX0_told_86 (hR.al (i := i) (by omega)) rfl ?_
    exact g_iret hx (Nat.le_of_ble_eq_true rfl) (Nat.le_of_ble_eq_true rfl) dX0_told_89 ⟨congrArg (fun z => some (Value.int (iI z))) (by unfold toldS; rw [if_neg (by omega), if_pos (by omega)]), ⟨g, lf, rfl, hR⟩, Fr.rf⟩
  by_cases c_13_2 : c = 2
  ·
    refine g_tsAt hx 2 90 c_13_2 (by decide) dX0_told_13 (by rfl) (by decide) ?_
    refine g_aload_n hx 0 dX0_told_90 rfl rfl ?_
    refine gq215 (v := .int (iI (σ 3 i))) hx rfl dX0_told_91 (hR.al (i := i) (by omega)) rfl ?_
    exact g_iret hx (Nat.le_of_ble_eq_true rfl) (Nat.le_of_ble_eq_true rfl) dX0_told_94 ⟨congrArg (fun z => some (Value.int (iI z))) (by unfold toldS; rw [if_neg (by omega), if_neg (by omega), if_pos (by omega)]), ⟨g, lf, rfl, hR⟩, Fr.rf⟩
  by_cases c_13_3 : c = 3
  ·
    refine g_tsAt hx 3 95 c_13_3 (by decide) dX0_told_13 (by rfl) (by decide) ?_
    refine g_aload_n hx 0 dX0_told_95 rfl rfl ?_
    refine gq217 (v := .int (iI (σ 4 i))) hx rfl dX0_told_96 (hR.al (i := i) (by omega)) rfl ?_
    exact g_iret hx (Nat.le_of_ble_eq_true rfl) (Nat.le_of_ble_eq_true rfl) dX0_told_99 ⟨congrArg (fun z => some (Value.int (iI z))) (by unfold toldS; rw [if_neg (by omega), if_neg (by omega), if_neg (by omega), if_pos (by omega)]), ⟨g, lf, rfl, hR⟩, Fr.rf⟩
  by_cases c_13_4 : c = 4
  ·
    refine g_tsAt hx 4 100 c_13_4 (by decide) dX0_told_13 (by rfl) (by decide) ?_
    refine g_aload_n hx 0 dX0_told_100 rfl rfl ?_
    refine gq219 (v := .int (iI (σ 5 i))) hx rfl dX0_told_101 (hR.al (i := i) (by omega)) rfl ?_
    exact g_iret hx (Nat.le_of_ble_eq_true rfl) (Nat.le_of_ble_eq_true rfl) dX0_told_104 ⟨congrArg (fun z => some (Value.int (iI z))) (by unfold toldS; rw [if_neg (by omega), if_neg (by omega), if_neg (by omega), if_neg (by omega), if_pos (by omega)]), ⟨g, lf, rfl, hR⟩, Fr.rf⟩
  by_cases c_13_5 : c = 5
  ·
    refine g_tsAt hx 5 105 c_13_5 (by decide) dX0_told_13 (by rfl) (by decide) ?_
    refine g_aload_n hx 0 dX0_told_105 rfl rfl ?_
    refine gq226 (v := .int (iI (σ 8 i))) hx rfl dX0_told_106 (hR.al (i := i) (by omega)) rfl ?_
    exact g_iret hx (Nat.le_of_ble_eq_true rfl) (Nat.le_of_ble_eq_true rfl) dX0_told_109 ⟨congrArg (fun z => some (Value.int (iI z))) (by unfold toldS; rw [if_neg (by omega), if_neg (by omega), if_neg (by omega), if_neg (by omega), if_neg (by omega), if_pos (by omega)]), ⟨g, lf, rfl, hR⟩, Fr.rf⟩
  by_cases c_13_6 : c = 6
  ·
    refine g_tsAt hx 6 110 c_13_6 (by decide) dX0_told_13 (by rfl) (by decide) ?_
    refine g_aload_n hx 0 dX0_told_110 rfl rfl ?_
    refine gq230 (v := .int (iI (σ 10 i))) hx rfl dX0_told_111 (hR.al (i := i) (by omega)) rfl ?_
    exact g_iret hx (Nat.le_of_ble_eq_true rfl) (Nat.le_of_ble_eq_true rfl) dX0_told_114 ⟨congrArg (fun z => some (Value.int (iI z))) (by unfold toldS; rw [if_neg (by omega), if_neg (by omega), if_neg (by omega), if_neg (by omega), if_neg (by omega), if_neg (by omega), if_pos (by omega)]), ⟨g, lf, rfl, hR⟩, Fr.rf⟩
  by_cases c_13_7 : c = 7
  ·
    refine g_tsAt hx 7 115 c_13_7 (by decide) dX0_told_13 (by rfl) (by decide) ?_
    refine g_aload_n hx 0 dX0_told_115 rfl rfl ?_
    refine gq221 (v := .int (iI (σ 6 i))) hx rfl dX0_told_116 (hR.al (i := i) (by omega)) rfl ?_
    refine g_if_eq hx 126 (by omega) dX0_told_119 (by decide) (fun c_119 => ?_) (fun c_119 => ?_)
    ·
      refine g_iconst hx dX0_told_126 ?_
      exact g_iret hx (Nat.le_of_ble_eq_true rfl) (Nat.le_of_ble_eq_true rfl) dX0_told_127 ⟨congrArg (fun z => some (Value.int (iI z))) (by unfold toldS; rw [if_neg (by omega), if_neg (by omega), if_neg (by omega), if_neg (by omega), if_neg (by omega), if_neg (by omega), if_neg (by omega), if_pos (by omega)]; omega), ⟨g, lf, rfl, hR⟩, Fr.rf⟩
    ·
      refine g_iconst hx dX0_told_122 ?_
      refine g_goto hx 127 dX0_told_123 (by decide) ?_
      exact g_iret hx (Nat.le_of_ble_eq_true rfl) (Nat.le_of_ble_eq_true rfl) dX0_told_127 ⟨congrArg (fun z => some (Value.int (iI z))) (by unfold toldS; rw [if_neg (by omega), if_neg (by omega), if_neg (by omega), if_neg (by omega), if_neg (by omega), if_neg (by omega), if_neg (by omega), if_pos (by omega)]; omega), ⟨g, lf, rfl, hR⟩, Fr.rf⟩
  by_cases c_13_8 : c = 8
  ·
    refine g_tsAt hx 8 128 c_13_8 (by decide) dX0_told_13 (by rfl) (by decide) ?_
    refine g_aload_n hx 0 dX0_told_128 rfl rfl ?_
    refine gq223 (v := .int (iI (σ 7 i))) hx rfl dX0_told_129 (hR.al (i := i) (by omega)) rfl ?_
    refine g_if_eq hx 139 (by omega) dX0_told_132 (by decide) (fun c_132 => ?_) (fun c_132 => ?_)
    ·
      refine g_iconst hx dX0_told_139 ?_
      exact g_iret hx (Nat.le_of_ble_eq_true rfl) (Nat.le_of_ble_eq_true rfl) dX0_told_140 ⟨congrArg (fun z => some (Value.int (iI z))) (by unfold toldS; rw [if_neg (by omega), if_neg (by omega), if_neg (by omega), if_neg (by omega), if_neg (by omega), if_neg (by omega), if_neg (by omega), if_neg (by omega), if_pos (by omega)]; omega), ⟨g, lf, rfl, hR⟩, Fr.rf⟩
    ·
      refine g_iconst hx dX0_told_135 ?_
      refine g_goto hx 140 dX0_told_136 (by decide) ?_
      exact g_iret hx (Nat.le_of_ble_eq_true rfl) (Nat.le_of_ble_eq_true rfl) dX0_told_140 ⟨congrArg (fun z => some (Value.int (iI z))) (by unfold toldS; rw [if_neg (by omega), if_neg (by omega), if_neg (by omega), if_neg (by omega), if_neg (by omega), if_neg (by omega), if_neg (by omega), if_neg (by omega), if_pos (by omega)]; omega), ⟨g, lf, rfl, hR⟩, Fr.rf⟩
  by_cases c_13_9 : c = 9
  ·
    refine g_tsAt hx 9 141 c_13_9 (by decide) dX0_told_13 (by rfl) (by decide) ?_
    refine g_aload_n hx 1 dX0_told_141 rfl rfl ?_
    refine g_aload_n hx 0 dX0_told_142 rfl rfl ?_
    refine g_pcallV (rest := []) (na := 1) hx (kc_scoreOf l G g M σ N lf B hI hR i (by omega)) hR.o rfl (lw_V q367 q369 qs9 q31 q370) rfl rfl (by decide +kernel) rfl ⟨Nat.le_of_ble_eq_true rfl, Nat.le_of_ble_eq_true rfl⟩ rfl (Nat.le_of_ble_eq_true rfl) dX0_told_143 ⟨Nat.zero_le _, Nat.zero_le _⟩ ?_
    exact g_iret hx (Nat.le_of_ble_eq_true rfl) (Nat.le_of_ble_eq_true rfl) dX0_told_146 ⟨congrArg (fun z => some (Value.int (iI z))) (by unfold toldS; rw [if_neg (by omega), if_neg (by omega), if_neg (by omega), if_neg (by omega), if_neg (by omega), if_neg (by omega), if_neg (by omega), if_neg (by omega), if_neg (by omega), if_pos (by omega)]), ⟨g, lf, rfl, hR⟩, Fr.rf⟩
  by_cases c_13_10 : c = 10
  ·
    refine g_tsAt hx 10 147 c_13_10 (by decide) dX0_told_13 (by rfl) (by decide) ?_
    refine g_aload_n hx 1 dX0_told_147 rfl rfl ?_
    refine g_aload_n hx 0 dX0_told_148 rfl rfl ?_
    refine g_pcallV (rest := []) (na := 1) hx (kc_depthOf l G g M σ N lf B hI hR i (by omega)) hR.o rfl (lw_V q348 q350 qs7 q31 q351) rfl rfl (by decide +kernel) rfl ⟨Nat.le_of_ble_eq_true rfl, Nat.le_of_ble_eq_true rfl⟩ rfl (Nat.le_of_ble_eq_true rfl) dX0_told_149 ⟨Nat.zero_le _, Nat.zero_le _⟩ ?_
    exact g_iret hx (Nat.le_of_ble_eq_true rfl) (Nat.le_of_ble_eq_true rfl) dX0_told_152 ⟨congrArg (fun z => some (Value.int (iI z))) (by unfold toldS; rw [if_neg (by omega), if_neg (by omega), if_neg (by omega), if_neg (by omega), if_neg (by omega), if_neg (by omega), if_neg (by omega), if_neg (by omega), if_neg (by omega), if_neg (by omega), if_pos (by omega)]), ⟨g, lf, rfl, hR⟩, Fr.rf⟩
  by_cases c_13_11 : c = 11
  ·
    refine g_tsAt hx 11 153 c_13_11 (by decide) dX0_told_13 (by rfl) (by decide) ?_
    obtain ⟨nv, va, lk, vb, v1, v2, v3, v4, v5, v6⟩ := hR.vd hi
    refine g_aload_n hx 0 dX0_told_153 rfl rfl ?_
    refine gq225 (v := .ref (g 11 i)) hx rfl dX0_told_154 (hR.al (i := i) (by omega)) rfl ?_
    refine g_pcallV (rest := []) (na := 0) hx (k_size l G M (g 11 i) (11, i) (12, i) nv va v1) ((al_cell v1).choose_spec.choose_spec) rfl (lw_V q160 q161 q162 q34 q163) rfl rfl (by decide +kernel) rfl ⟨Nat.le_of_ble_eq_true rfl, Nat.le_of_ble_eq_true rfl⟩ rfl (Nat.le_of_ble_eq_true rfl) dX0_told_157 ⟨Nat.zero_le _, Nat.zero_le _⟩ ?_
    exact g_iret hx (Nat.le_of_ble_eq_true rfl) (Nat.le_of_ble_eq_true rfl) dX0_told_160 ⟨congrArg (fun z => some (Value.int (iI z))) (by unfold toldS; rw [if_neg (by omega), if_neg (by omega), if_neg (by omega), if_neg (by omega), if_neg (by omega), if_neg (by omega), if_neg (by omega), if_neg (by omega), if_neg (by omega), if_neg (by omega), if_neg (by omega), if_pos (by omega)]; rw [v5, v6, Int.toNat_natCast, Int.toNat_natCast, pop_all v3 v4]), ⟨g, lf, rfl, hR⟩, Fr.rf⟩
  by_cases c_13_12 : c = 12
  ·
    refine g_tsAt hx 12 161 c_13_12 (by decide) dX0_told_13 (by rfl) (by decide) ?_
    refine g_aload_n hx 1 dX0_told_161 rfl rfl ?_
    refine g_callV (rest := []) (na := 0) hx (kc_makes l G g M σ N lf B hI hR) hR.o rfl (lw_V q371 q373 qs10 q31 q374) rfl rfl (by decide +kernel) rfl ⟨Nat.le_of_ble_eq_true rfl, Nat.le_of_ble_eq_true rfl⟩ rfl (Nat.le_of_ble_eq_true rfl) dX0_told_162 ⟨Nat.le_of_ble_eq_true rfl, Nat.le_of_ble_eq_true rfl⟩ (fun v_1 M_2 h_3 => ?_)
    obtain ⟨rfl, hR1, ⟨cad, ⟨cf, h21, hL⟩, hA1, hcs, hIl⟩, hf1⟩ := h_3
    have hm := ncs_c σ N
    refine g_aload_n hx 1 dX0_told_165 rfl rfl ?_
    refine gq95 (v := .ref (g 21 0)) hx rfl dX0_told_166 hR1.o rfl ?_
    refine g_iload_n hx 2 dX0_told_169 rfl rfl ?_
    refine g_iald hx i (v := cf i) h21 rfl (by omega) (by decide) rfl dX0_told_170 ?_
    exact g_iret hx (Nat.le_of_ble_eq_true rfl) (Nat.le_of_ble_eq_true rfl) dX0_told_171 ⟨congrArg (fun z => some (Value.int (iI z))) (by unfold toldS; rw [if_neg (by omega), if_neg (by omega), if_neg (by omega), if_neg (by omega), if_neg (by omega), if_neg (by omega), if_neg (by omega), if_neg (by omega), if_neg (by omega), if_neg (by omega), if_neg (by omega), if_neg (by omega), if_pos (by omega)]; exact hL i hi), ⟨g, lf, rfl, hR1⟩, PM50 hf1⟩
  refine g_tsOut hx 172 (by omega) (by omega) dX0_told_13 (by decide) ?_
  refine g_iconst hx dX0_told_172 ?_
  exact g_iret hx (Nat.le_of_ble_eq_true rfl) (Nat.le_of_ble_eq_true rfl) dX0_told_173 ⟨congrArg (fun z => some (Value.int (iI z))) (by unfold toldS; rw [if_neg (by omega), if_neg (by omega), if_neg (by omega), if_neg (by omega), if_neg (by omega), if_neg (by omega), if_neg (by omega), if_neg (by omega), if_neg (by omega), if_neg (by omega), if_neg (by omega), if_neg (by omega), if_neg (by omega)]), ⟨g, lf, rfl, hR⟩, Fr.rf⟩
theorem kc_toldN (l : Launch) (G : gG) (g : gA2) (M : gH) (σ : sT) (N : Nat) (lf : Int) (B : Nat) (hI : Iv σ N B) (hR : RC G g M σ N lf) (a : Int) (ha : -2147483648 ≤ a ∧ a ≤ 2147483647) (hn : ¬ (0 ≤ a ∧ a < N)) (c : Int) : GMet l yX0_told (ws_ yX0_told cX0_told 4 (some .int)) ({ frames := 9, cells := 256, slots := 13184, locals := 219 } : Room) G [.ref (g 0 0), .int (iI a), .int (iI c)] M (MC G M (g 0 0) (-1) σ N) 256 13184 := by
  refine g_start (by decide) (Nat.le_of_ble_eq_true rfl) (fun x hx => ?_)
  have hb0 := hI.1
  refine g_aload_n hx 0 dX0_told_0 rfl rfl ?_
  refine g_iload_n hx 1 dX0_told_1 rfl rfl ?_
  refine g_pcallV (rest := []) (na := 1) hx (k_atN l G g M σ N lf B hI hR a (by omega) (by omega)) hR.o rfl (lw_V q313 q315 qs5 q31 q316) rfl rfl (by decide +kernel) rfl ⟨Nat.le_of_ble_eq_true rfl, Nat.le_of_ble_eq_true rfl⟩ rfl (Nat.le_of_ble_eq_true rfl) dX0_told_2 ⟨Nat.zero_le _, Nat.zero_le _⟩ ?_
  refine g_astore_nN (lv' := [(3, .null), (0, .ref (g 0 0)), (1, .int (iI a)), (2, .int (iI c))]) hx dX0_told_5 rfl (by decide) rfl ?_
  refine g_aload_nN hx 0 dX0_told_6 rfl rfl ?_
  refine g_ifnonnullN hx dX0_told_7 ?_
  refine g_iconst hx dX0_told_10 ?_
  exact g_iret hx (Nat.le_of_ble_eq_true rfl) (Nat.le_of_ble_eq_true rfl) dX0_told_11 ⟨congrArg (fun z => some (Value.int (iI z))) (by rfl), ⟨g, lf, rfl, hR⟩, Fr.rf⟩
theorem kc_find (l : Launch) (G : gG) (g : gA2) (M : gH) (σ : sT) (N : Nat) (lf : Int) (B : Nat) (hI : Iv σ N B) (hR : RC G g M σ N lf) (a : Int) (ha : -2147483648 ≤ a ∧ a ≤ 2147483647) : GMet l yX0_find (ws_ yX0_find cX0_find 3 (some (.object "CryOrder$Case"))) ({ frames := 9, cells := 256, slots := 13184, locals := 219 } : Room) G [.ref (g 0 0), .int (iI a)] M (fun v M' => RC G g M' σ N lf ∧ Fr PM M M' ∧ ∃ cad, CSR G g M' σ N cad ∧ ((∃ q, q < N ∧ isC σ N q ∧ a = (q : Int) ∧ v = some (.ref (cad q))) ∨ ((∀ q, q < N → isC σ N q → a ≠ (q : Int)) ∧ v = some .null))) 256 13184 := by
  refine g_start (by decide) (Nat.le_of_ble_eq_true rfl) (fun x hx => ?_)
  have hb0 := hI.1
  refine g_aload_n hx 0 dX0_find_0 rfl rfl ?_
  refine g_callV (rest := []) (na := 0) hx (kc_makes l G g M σ N lf B hI hR) hR.o rfl (lw_V q371 q373 qs10 q31 q374) rfl rfl (by decide +kernel) rfl ⟨Nat.le_of_ble_eq_true rfl, Nat.le_of_ble_eq_true rfl⟩ rfl (Nat.le_of_ble_eq_true rfl) dX0_find_1 ⟨Nat.le_of_ble_eq_true rfl, Nat.le_of_ble_eq_true rfl⟩ (fun v_1 M_2 h_3 => ?_)
  obtain ⟨rfl, hR1, ⟨cad, ⟨cf, h21, hL⟩, hA1, hcs, hIl⟩, hf1⟩ := h_3
  have hm := ncs_c σ N
  refine g_iconst hx dX0_find_4 ?_
  refine g_istore_n (lv' := [(2, .int (iI 0)), (0, .ref (g 0 0)), (1, .int (iI a))]) hx dX0_find_5 rfl (by decide) rfl ?_
  have lp_4 : ∀ k : Nat, k ≤ (ncs σ N) → (∀ j : Nat, j < k → ((ordr σ N j : Nat) : Int) ≠ a) → GW x (gQx x (fun v M' => RC G g M' σ N lf ∧ Fr PM M M' ∧ ∃ cad, CSR G g M' σ N cad ∧ ((∃ q, q < N ∧ isC σ N q ∧ a = (q : Int) ∧ v = some (.ref (cad q))) ∨ ((∀ q, q < N → isC σ N q → a ≠ (q : Int)) ∧ v = some .null))) 256 13184) M_2 (0 + 256) (0 + 13184) 6 [(2, .int (iI (k : Int))), (0, .ref (g 0 0)), (1, .int (iI a))] [] := by
    refine down (ncs σ N) (fun k hk_k ih_k hy_k => ?_)
    refine g_iload_n hx 0 dX0_find_6 rfl rfl ?_
    refine g_aload_n hx 1 dX0_find_7 rfl rfl ?_
    refine gq94 (v := .ref (g 20 0)) hx rfl dX0_find_8 hR1.o rfl ?_
    refine g_pcallV (rest := [.int (iI (k : Int))]) (na := 0) hx (k_size l G M_2 (g 20 0) (20, 0) (20, 1) (ncs σ N) (fun j => cad (ordr σ N j)) hA1) ((al_cell hA1).choose_spec.choose_spec) rfl (lw_V q160 q161 q162 q34 q163) rfl rfl (by decide +kernel) rfl ⟨Nat.le_of_ble_eq_true rfl, Nat.le_of_ble_eq_true rfl⟩ rfl (Nat.le_of_ble_eq_true rfl) dX0_find_11 ⟨Nat.le_of_ble_eq_true rfl, Nat.le_of_ble_eq_true rfl⟩ ?_
    refine g_icmp_ge hx 53 (by omega) (by omega) dX0_find_14 (by decide) (fun c_14 => ?_) (fun c_14 => ?_)
    ·
      refine g_null hx dX0_find_53 ?_
      exact g_aret hx (Or.inl ⟨_, rfl⟩) (Or.inl rfl) (Nat.le_of_ble_eq_true rfl) (Nat.le_of_ble_eq_true rfl) dX0_find_54 ⟨hR1, hf1, cad, ⟨⟨cf, h21, hL⟩, hA1, hcs, hIl⟩, Or.inr ⟨fun q hq hc he => by obtain ⟨j, h1, h2⟩ := ordr_sur hq hc; exact hy_k j (by omega) (by rw [h2]; exact he.symm), rfl⟩⟩
    ·
      refine g_aload_n hx 1 dX0_find_17 rfl rfl ?_
      refine gq94 (v := .ref (g 20 0)) hx rfl dX0_find_18 hR1.o rfl ?_
      refine g_iload_n hx 0 dX0_find_21 rfl rfl ?_
      refine g_pcallV (rest := []) (na := 1) hx (k_get l G M_2 (g 20 0) (20, 0) (20, 1) (ncs σ N) (fun j => cad (ordr σ N j)) hA1 k (by omega)) ((al_cell hA1).choose_spec.choose_spec) rfl (lw_V q164 q165 q166 q34 q167) rfl rfl (by decide +kernel) rfl ⟨Nat.le_of_ble_eq_true rfl, Nat.le_of_ble_eq_true rfl⟩ rfl (Nat.le_of_ble_eq_true rfl) dX0_find_22 ⟨Nat.le_of_ble_eq_true rfl, Nat.le_of_ble_eq_true rfl⟩ ?_
      obtain ⟨c, hc⟩ : ∃ z, z = ordr σ N k := ⟨_, rfl⟩
      have hck := ordr_ok σ N k (by omega)
      rw [← hc] at hck
      refine g_st (st' := [.ref (cad c)]) (by simp only [← hc]) ?_
      obtain ⟨vc, hcellc⟩ := CSE.cell (hcs c hck.1 hck.2)
      refine g_cast hx hcellc rfl q391 dX0_find_25 ?_
      refine g_pcallV (rest := []) (na := 0) hx (kc_number l G g M_2 σ N lf B hI hR1 (cad c) c (hcs c hck.1 hck.2) hck.1 hck.2 hIl.1) ((CSE.cell (hcs c hck.1 hck.2)).choose_spec) rfl (lw_V q419 q420 q421 q44 q422) rfl rfl (by decide +kernel) rfl ⟨Nat.le_of_ble_eq_true rfl, Nat.le_of_ble_eq_true rfl⟩ rfl (Nat.le_of_ble_eq_true rfl) dX0_find_28 ⟨Nat.le_of_ble_eq_true rfl, Nat.le_of_ble_eq_true rfl⟩ ?_
      refine g_iload_n hx 2 dX0_find_31 rfl rfl ?_
      refine g_icmp_ne hx 47 (by omega) (by omega) dX0_find_32 (by decide) (fun c_32 => ?_) (fun c_32 => ?_)
      ·
        refine g_iinc (lv' := [(2, .int (iI ((k + 1 : Nat) : Int))), (0, .ref (g 0 0)), (1, .int (iI a))]) (b := ((k + 1 : Nat) : Int)) hx 0 dX0_find_47 rfl (by omega) (by decide) rfl ?_
        refine g_goto hx 6 dX0_find_50 (by decide) ?_
        exact g_lv [0, 1, 2] rfl (ih_k (by omega) (fun j hj => by by_cases e : j = k; (· subst e; rw [← hc]; omega); (· exact hy_k j (by omega))))
      ·
        refine g_aload_n hx 1 dX0_find_35 rfl rfl ?_
        refine gq94 (v := .ref (g 20 0)) hx rfl dX0_find_36 hR1.o rfl ?_
        refine g_iload_n hx 0 dX0_find_39 rfl rfl ?_
        refine g_pcallV (rest := []) (na := 1) hx (k_get l G M_2 (g 20 0) (20, 0) (20, 1) (ncs σ N) (fun j => cad (ordr σ N j)) hA1 k (by omega)) ((al_cell hA1).choose_spec.choose_spec) rfl (lw_V q164 q165 q166 q34 q167) rfl rfl (by decide +kernel) rfl ⟨Nat.le_of_ble_eq_true rfl, Nat.le_of_ble_eq_true rfl⟩ rfl (Nat.le_of_ble_eq_true rfl) dX0_find_40 ⟨Nat.le_of_ble_eq_true rfl, Nat.le_of_ble_eq_true rfl⟩ ?_
        refine g_st (st' := [.ref (cad c)]) (by simp only [← hc]) ?_
        refine g_cast hx hcellc rfl q391 dX0_find_43 ?_
        exact g_aret hx (Or.inl ⟨_, rfl⟩) (Or.inr ⟨_, rfl⟩) (Nat.le_of_ble_eq_true rfl) (Nat.le_of_ble_eq_true rfl) dX0_find_46 ⟨hR1, hf1, cad, ⟨⟨cf, h21, hL⟩, hA1, hcs, hIl⟩, Or.inl ⟨c, hck.1, hck.2, by omega, rfl⟩⟩
  exact g_lv [0, 1, 2] rfl (lp_4 0 (Nat.zero_le _) (fun j hj => by omega))
noncomputable def caseS (σ : sT) (N : Nat) (a w : Int) : Int := @ite Int ((0 ≤ a ∧ a < N) ∧ isC σ N a.toNat) (Classical.propDecidable _) (if w = 0 then (csz σ N a.toNat : Int) else if w = 1 then csc σ N a.toNat else if w = 2 then 5 + 2 * (csz σ N a.toNat : Int) else if w = 3 then bz (clk σ N a.toNat) else if 10 ≤ w ∧ w ≤ 9 + (csz σ N a.toNat : Int) then (nth (inC σ N a.toNat) N (w - 10).toNat : Int) else -1) (-1)
theorem kc_caseOf (l : Launch) (G : gG) (g : gA2) (M : gH) (σ : sT) (N : Nat) (lf : Int) (B : Nat) (hI : Iv σ N B) (hR : RC G g M σ N lf) (a b : Int) (ha : -2147483648 ≤ a ∧ a ≤ 2147483647) (hb : -2147483648 ≤ b ∧ b ≤ 2147483647) : GMet l yX0_caseOf (ws_ yX0_caseOf cX0_caseOf 4 (some .int)) ({ frames := 10, cells := 256, slots := 13184, locals := 241 } : Room) G [.ref (g 0 0), .int (iI a), .int (iI b)] M (MC G M (g 0 0) (caseS σ N a b) σ N) 256 13184 := by
  refine g_start (by decide) (Nat.le_of_ble_eq_true rfl) (fun x hx => ?_)
  have hb0 := hI.1
  have h5 : ∀ q, q < N → 1 ≤ σ 5 q ∧ σ 5 q ≤ 100 := fun q hq => by have := (hI.2.1 q hq).1; unfold okA at this; omega
  refine g_aload_n hx 0 dX0_caseOf_0 rfl rfl ?_
  refine g_iload_n hx 1 dX0_caseOf_1 rfl rfl ?_
  refine g_callV (rest := []) (na := 1) hx (kc_find l G g M σ N lf B hI hR a ha) hR.o rfl (lw_V q429 q431 qs13 q31 q432) rfl rfl (by decide +kernel) rfl ⟨Nat.le_of_ble_eq_true rfl, Nat.le_of_ble_eq_true rfl⟩ rfl (Nat.le_of_ble_eq_true rfl) dX0_caseOf_2 ⟨Nat.le_of_ble_eq_true rfl, Nat.le_of_ble_eq_true rfl⟩ (fun v_1 M_2 h_3 => ?_)
  obtain ⟨hR1, hf1, cad, ⟨-, -, hcs, hIl⟩, ⟨q, hq, hcq, rfl, rfl⟩ | ⟨hno, rfl⟩⟩ := h_3
  ·
    obtain ⟨vq, me, hcellq, hALq, hlq⟩ := hcs q hq hcq
    have hcz := csz_c σ N q; have hcond : (0 ≤ (q : Int) ∧ (q : Int) < N) ∧ isC σ N (q : Int).toNat := ⟨by omega, by rw [Int.toNat_natCast]; exact hcq⟩; have hscq := csc_rg (N := N) (k := q) h5
    refine g_astore_n (lv' := [(3, .ref (cad q)), (0, .ref (g 0 0)), (1, .int (iI (q : Int))), (2, .int (iI b))]) hx dX0_caseOf_5 rfl (by decide) rfl ?_
    refine g_aload_n hx 0 dX0_caseOf_6 rfl rfl ?_
    refine g_ifnonnull hx 12 dX0_caseOf_7 (by decide) ?_
    refine g_iload_n hx 3 dX0_caseOf_12 rfl rfl ?_
    by_cases c_13_0 : b = 0
    ·
      refine g_tsAt hx 0 44 c_13_0 (by decide) dX0_caseOf_13 (by rfl) (by decide) ?_
      refine g_aload_n hx 0 dX0_caseOf_44 rfl rfl ?_
      refine gq400 (v := .ref vq) hx rfl dX0_caseOf_45 hcellq rfl ?_
      refine g_pcallV (rest := []) (na := 0) hx (k_size l G M_2 vq (27, q) (28, q) (csz σ N q) (fun j => g 10 (me j)) hALq) ((al_cell hALq).choose_spec.choose_spec) rfl (lw_V q160 q161 q162 q34 q163) rfl rfl (by decide +kernel) rfl ⟨Nat.le_of_ble_eq_true rfl, Nat.le_of_ble_eq_true rfl⟩ rfl (Nat.le_of_ble_eq_true rfl) dX0_caseOf_48 ⟨Nat.le_of_ble_eq_true rfl, Nat.le_of_ble_eq_true rfl⟩ ?_
      exact g_iret hx (Nat.le_of_ble_eq_true rfl) (Nat.le_of_ble_eq_true rfl) dX0_caseOf_51 ⟨congrArg (fun z => some (Value.int (iI z))) (by unfold caseS; rw [if_pos hcond, if_pos (by omega), Int.toNat_natCast]), ⟨g, lf, rfl, hR1⟩, PM50 hf1⟩
    by_cases c_13_1 : b = 1
    ·
      refine g_tsAt hx 1 52 c_13_1 (by decide) dX0_caseOf_13 (by rfl) (by decide) ?_
      refine g_aload_n hx 0 dX0_caseOf_52 rfl rfl ?_
      refine gq401 (v := .int (iI (csc σ N q))) hx rfl dX0_caseOf_53 hcellq rfl ?_
      exact g_iret hx (Nat.le_of_ble_eq_true rfl) (Nat.le_of_ble_eq_true rfl) dX0_caseOf_56 ⟨congrArg (fun z => some (Value.int (iI z))) (by unfold caseS; rw [if_pos hcond, if_neg (by omega), if_pos (by omega), Int.toNat_natCast]), ⟨g, lf, rfl, hR1⟩, PM50 hf1⟩
    by_cases c_13_2 : b = 2
    ·
      refine g_tsAt hx 2 57 c_13_2 (by decide) dX0_caseOf_13 (by rfl) (by decide) ?_
      refine g_aload_n hx 0 dX0_caseOf_57 rfl rfl ?_
      refine g_pcallV (rest := []) (na := 0) hx (kc_minutes l G g M_2 σ N lf B hI hR1 (cad q) q (hcs q hq hcq) hq) ((CSE.cell (hcs q hq hcq)).choose_spec) rfl (lw_V q433 q434 q435 q44 q436) rfl rfl (by decide +kernel) rfl ⟨Nat.le_of_ble_eq_true rfl, Nat.le_of_ble_eq_true rfl⟩ rfl (Nat.le_of_ble_eq_true rfl) dX0_caseOf_58 ⟨Nat.le_of_ble_eq_true rfl, Nat.le_of_ble_eq_true rfl⟩ ?_
      exact g_iret hx (Nat.le_of_ble_eq_true rfl) (Nat.le_of_ble_eq_true rfl) dX0_caseOf_61 ⟨congrArg (fun z => some (Value.int (iI z))) (by unfold caseS; rw [if_pos hcond, if_neg (by omega), if_neg (by omega), if_pos (by omega), Int.toNat_natCast]), ⟨g, lf, rfl, hR1⟩, PM50 hf1⟩
    by_cases c_13_3 : b = 3
    ·
      refine g_tsAt hx 3 62 c_13_3 (by decide) dX0_caseOf_13 (by rfl) (by decide) ?_
      refine g_aload_n hx 0 dX0_caseOf_62 rfl rfl ?_
      refine gq402 (v := .int (iI (bz (clk σ N q)))) hx rfl dX0_caseOf_63 hcellq rfl ?_
      refine g_if_eqP hx 73 dX0_caseOf_66 (by decide) (fun c_66 => ?_) (fun c_66 => ?_)
      ·
        refine g_iconst hx dX0_caseOf_73 ?_
        exact g_iret hx (Nat.le_of_ble_eq_true rfl) (Nat.le_of_ble_eq_true rfl) dX0_caseOf_74 ⟨congrArg (fun z => some (Value.int (iI z))) (by unfold caseS; rw [if_pos hcond, if_neg (by omega), if_neg (by omega), if_neg (by omega), if_pos (by omega), Int.toNat_natCast]; exact (bz_f c_66).symm), ⟨g, lf, rfl, hR1⟩, PM50 hf1⟩
      ·
        refine g_iconst hx dX0_caseOf_69 ?_
        refine g_goto hx 74 dX0_caseOf_70 (by decide) ?_
        exact g_iret hx (Nat.le_of_ble_eq_true rfl) (Nat.le_of_ble_eq_true rfl) dX0_caseOf_74 ⟨congrArg (fun z => some (Value.int (iI z))) (by unfold caseS; rw [if_pos hcond, if_neg (by omega), if_neg (by omega), if_neg (by omega), if_pos (by omega), Int.toNat_natCast]; exact (bz_t c_66).symm), ⟨g, lf, rfl, hR1⟩, PM50 hf1⟩
    refine g_tsOut hx 75 (by omega) (by omega) dX0_caseOf_13 (by decide) ?_
    refine g_iload_n hx 3 dX0_caseOf_75 rfl rfl ?_
    refine g_bipush hx dX0_caseOf_76 (by decide) ?_
    refine g_bipush hx dX0_caseOf_78 (by decide) ?_
    refine g_aload_n hx 0 dX0_caseOf_80 rfl rfl ?_
    refine gq400 (v := .ref vq) hx rfl dX0_caseOf_81 hcellq rfl ?_
    refine g_pcallV (rest := [.int (iI 9), .int (iI 10), .int (iI b)]) (na := 0) hx (k_size l G M_2 vq (27, q) (28, q) (csz σ N q) (fun j => g 10 (me j)) hALq) ((al_cell hALq).choose_spec.choose_spec) rfl (lw_V q160 q161 q162 q34 q163) rfl rfl (by decide +kernel) rfl ⟨Nat.le_of_ble_eq_true rfl, Nat.le_of_ble_eq_true rfl⟩ rfl (Nat.le_of_ble_eq_true rfl) dX0_caseOf_84 ⟨Nat.le_of_ble_eq_true rfl, Nat.le_of_ble_eq_true rfl⟩ ?_
    refine g_iadd hx dX0_caseOf_87 ?_
    refine g_pcallS (rest := []) (na := 3) hx (k_isIn l G M_2 b 10 (9 + ((csz σ N q) : Int)) (by omega) (by omega) (by omega)) (lw_S q145 q146 q31 q147) rfl rfl (by decide +kernel) rfl ⟨Nat.le_of_ble_eq_true rfl, Nat.le_of_ble_eq_true rfl⟩ rfl (Nat.le_of_ble_eq_true rfl) dX0_caseOf_88 ⟨Nat.le_of_ble_eq_true rfl, Nat.le_of_ble_eq_true rfl⟩ ?_
    refine g_if_eqP hx 114 dX0_caseOf_91 (by decide) (fun c_91 => ?_) (fun c_91 => ?_)
    ·
      refine g_iconst hx dX0_caseOf_114 ?_
      exact g_iret hx (Nat.le_of_ble_eq_true rfl) (Nat.le_of_ble_eq_true rfl) dX0_caseOf_115 ⟨congrArg (fun z => some (Value.int (iI z))) (by unfold caseS; rw [if_pos hcond, if_neg (by omega), if_neg (by omega), if_neg (by omega), if_neg (by omega), Int.toNat_natCast, if_neg (by omega)]), ⟨g, lf, rfl, hR1⟩, PM50 hf1⟩
    ·
      refine g_aload_n hx 0 dX0_caseOf_94 rfl rfl ?_
      refine gq400 (v := .ref vq) hx rfl dX0_caseOf_95 hcellq rfl ?_
      refine g_iload_n hx 3 dX0_caseOf_98 rfl rfl ?_
      refine g_bipush hx dX0_caseOf_99 (by decide) ?_
      refine g_isub hx dX0_caseOf_101 ?_
      obtain ⟨j, hj⟩ : ∃ j : Nat, (b - 10).toNat = j := ⟨_, rfl⟩
      refine g_top (b := (j : Int)) (by omega) ?_
      have hme := hlq j (by omega)
      refine g_pcallV (rest := []) (na := 1) hx (k_get l G M_2 vq (27, q) (28, q) (csz σ N q) (fun j => g 10 (me j)) hALq j (by omega)) ((al_cell hALq).choose_spec.choose_spec) rfl (lw_V q164 q165 q166 q34 q167) rfl rfl (by decide +kernel) rfl ⟨Nat.le_of_ble_eq_true rfl, Nat.le_of_ble_eq_true rfl⟩ rfl (Nat.le_of_ble_eq_true rfl) dX0_caseOf_102 ⟨Nat.le_of_ble_eq_true rfl, Nat.le_of_ble_eq_true rfl⟩ ?_
      refine g_cast hx (hR1.al (i := me j) (by omega)) rfl q178 dX0_caseOf_105 ?_
      refine gq209 (v := .int (iI ((me j) : Int))) hx rfl dX0_caseOf_108 (hR1.al (i := me j) (by omega)) rfl ?_
      refine g_goto hx 115 dX0_caseOf_111 (by decide) ?_
      exact g_iret hx (Nat.le_of_ble_eq_true rfl) (Nat.le_of_ble_eq_true rfl) dX0_caseOf_115 ⟨congrArg (fun z => some (Value.int (iI z))) (by unfold caseS; rw [if_pos hcond, if_neg (by omega), if_neg (by omega), if_neg (by omega), if_neg (by omega), Int.toNat_natCast, if_pos (by omega), hj, lists_u hlq (nth_l (inC σ N q) N) (j := j) (by omega)]), ⟨g, lf, rfl, hR1⟩, PM50 hf1⟩
  ·
    have hcond : ¬ ((0 ≤ a ∧ a < N) ∧ isC σ N a.toNat) := fun h => hno a.toNat (by omega) h.2 (by omega)
    refine g_astore_nN (lv' := [(3, .null), (0, .ref (g 0 0)), (1, .int (iI a)), (2, .int (iI b))]) hx dX0_caseOf_5 rfl (by decide) rfl ?_
    refine g_aload_nN hx 0 dX0_caseOf_6 rfl rfl ?_
    refine g_ifnonnullN hx dX0_caseOf_7 ?_
    refine g_iconst hx dX0_caseOf_10 ?_
    exact g_iret hx (Nat.le_of_ble_eq_true rfl) (Nat.le_of_ble_eq_true rfl) dX0_caseOf_11 ⟨congrArg (fun z => some (Value.int (iI z))) (by unfold caseS; rw [if_neg hcond]), ⟨g, lf, rfl, hR1⟩, PM50 hf1⟩
