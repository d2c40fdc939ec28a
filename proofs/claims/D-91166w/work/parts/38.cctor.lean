/-! THE CLASS: its constructor -/
set_option maxRecDepth 100000
theorem dfX0 : ∀ j, j < 19 → defaultValue (tyX0 j) = vp_V [.int (iI 0), .int (iI 0), .int (iI 0), .int (iI 0), .null, .null, .null, .null, .int (iI 0), .null, .null, .null, .int (iI 0), .null, .null, .null, .null, .null, .int (iI 0)] j := by
  intro j hj
  have h : j = 0 ∨ j = 1 ∨ j = 2 ∨ j = 3 ∨ j = 4 ∨ j = 5 ∨ j = 6 ∨ j = 7 ∨ j = 8 ∨ j = 9 ∨ j = 10 ∨ j = 11 ∨ j = 12 ∨ j = 13 ∨ j = 14 ∨ j = 15 ∨ j = 16 ∨ j = 17 ∨ j = 18 := by omega
  rcases h with rfl | rfl | rfl | rfl | rfl | rfl | rfl | rfl | rfl | rfl | rfl | rfl | rfl | rfl | rfl | rfl | rfl | rfl | rfl <;> rfl
/-- the state at the start -/
def sg0 : sT := fun p q => if p = 0 ∧ q = 1 then 50 else if p = 0 ∧ q = 2 then 3 else 0
theorem sg0_k {p : Nat} (h : p ≠ 0) : sg0 p = fun _ => 0 := by funext q; simp [sg0, h]
theorem Iv0 : Iv sg0 0 0 := ⟨by decide, fun i hi => by omega, fun k hk => by exact absurd hk (by show ¬ (k : Int) < 0; omega), fun k hk => by exact absurd hk (by show ¬ (k : Int) < 0; omega)⟩
theorem kc_init (l : Launch) (G : gG) (M : gH) (c : Nat) (hc : M c = some ((0, 0), .inr (0, [.int (iI 0), .int (iI 0), .int (iI 0), .int (iI 0), .null, .null, .null, .null, .int (iI 0), .null, .null, .null, .int (iI 0), .null, .null, .null, .null, .null, .int (iI 0)]))) : GMet l yX0_init (ws_ yX0_init cX0_init 1 none) ({ frames := 4, cells := 25, slots := 4408, locals := 80 } : Room) G [.ref c] M (fun v M' => v = none ∧ (∃ (g : gA2) (lf : Int), g 0 0 = c ∧ RC G g M' sg0 0 lf) ∧ Fr (fun z => z.1 < 50) M M') 25 4408 := by
  refine g_start (by decide) (Nat.le_of_ble_eq_true rfl) (fun x hx => ?_)
  refine g_aload_n hx 0 dX0_init_0 rfl rfl ?_
  refine g_objInit hx q50 q51 q52 ⟨Nat.le_of_ble_eq_true rfl, Nat.le_of_ble_eq_true rfl⟩ (Nat.le_of_ble_eq_true rfl) dX0_init_1 ?_
  refine g_aload_n hx 0 dX0_init_4 rfl rfl ?_
  refine g_bipush hx dX0_init_5 (by decide) ?_
  refine pq82 (fs' := [.int (iI 0), .int (iI 50), .int (iI 0), .int (iI 0), .null, .null, .null, .null, .int (iI 0), .null, .null, .null, .int (iI 0), .null, .null, .null, .null, .null, .int (iI 0)]) hx rfl dX0_init_7 hc (Nat.le_of_ble_eq_true rfl) rfl ?_
  obtain ⟨M_1, e_2⟩ : ∃ M1 : gH, M1 = up M c ((0, 0), .inr (0, [.int (iI 0), .int (iI 50), .int (iI 0), .int (iI 0), .null, .null, .null, .null, .int (iI 0), .null, .null, .null, .int (iI 0), .null, .null, .null, .null, .null, .int (iI 0)])) := ⟨_, rfl⟩
  refine g_M e_2.symm ?_
  have f_3 : Fr (fun z => z = (0, 0)) M M_1 := by rw [e_2]; exact Fr.ofUp hc rfl
  have ho_4 : M_1 c = some ((0, 0), .inr (0, [.int (iI 0), .int (iI 50), .int (iI 0), .int (iI 0), .null, .null, .null, .null, .int (iI 0), .null, .null, .null, .int (iI 0), .null, .null, .null, .null, .null, .int (iI 0)])) := by rw [e_2]; exact up_s
  refine g_aload_n hx 0 dX0_init_10 rfl rfl ?_
  refine g_iconst hx dX0_init_11 ?_
  refine pq83 (fs' := [.int (iI 0), .int (iI 50), .int (iI 3), .int (iI 0), .null, .null, .null, .null, .int (iI 0), .null, .null, .null, .int (iI 0), .null, .null, .null, .null, .null, .int (iI 0)]) hx rfl dX0_init_12 ho_4 (Nat.le_of_ble_eq_true rfl) rfl ?_
  obtain ⟨M_5, e_6⟩ : ∃ M1 : gH, M1 = up M_1 c ((0, 0), .inr (0, [.int (iI 0), .int (iI 50), .int (iI 3), .int (iI 0), .null, .null, .null, .null, .int (iI 0), .null, .null, .null, .int (iI 0), .null, .null, .null, .null, .null, .int (iI 0)])) := ⟨_, rfl⟩
  refine g_M e_6.symm ?_
  have f_7 : Fr (fun z => z = (0, 0)) M_1 M_5 := by rw [e_6]; exact Fr.ofUp ho_4 rfl
  have ho_8 : M_5 c = some ((0, 0), .inr (0, [.int (iI 0), .int (iI 50), .int (iI 3), .int (iI 0), .null, .null, .null, .null, .int (iI 0), .null, .null, .null, .int (iI 0), .null, .null, .null, .null, .null, .int (iI 0)])) := by rw [e_6]; exact up_s
  refine g_aload_n hx 0 dX0_init_15 rfl rfl ?_
  refine g_new hx (1, 0) (ci := 4) (C := RJ2) (T := TJ2) (N := 3) (fs := [.int (iI 0), .null, .int (iI 0)]) rfl in_J2 tyJ2_ok q53 q54 q34 dfJ2 (Nat.le_of_ble_eq_true rfl) (Nat.le_of_ble_eq_true rfl) dX0_init_16 (fun a1 ha1 hba1 => ?_)
  refine g_dup hx dX0_init_19 rfl ?_
  refine g_callI (rest := [.ref a1, .ref c]) (na := 0) hx (k_J2_init l G (up M_5 a1 ((1, 0), al0)) a1 (1, 0) up_s) (lw_meth q57) q34 q55 q56 rfl rfl rfl (by decide +kernel) rfl ⟨Nat.le_of_ble_eq_true rfl, Nat.le_of_ble_eq_true rfl⟩ rfl (Nat.le_of_ble_eq_true rfl) dX0_init_20 ⟨Nat.le_of_ble_eq_true rfl, Nat.le_of_ble_eq_true rfl⟩ (fun v_9 M_10 h_11 => ?_)
  obtain ⟨rfl, rfl⟩ := h_11
  refine g_M up_up ?_
  obtain ⟨M_12, e_13⟩ : ∃ M1 : gH, M1 = up M_5 a1 ((1, 0), alc 0 G.2.2.2.1 0) := ⟨_, rfl⟩
  refine g_M e_13.symm ?_
  have f_14 : Fr (fun z => z = (0, 0)) M_5 M_12 := by rw [e_13]; exact Fr.new ha1
  have ho_15 : M_12 c = some ((0, 0), .inr (0, [.int (iI 0), .int (iI 50), .int (iI 3), .int (iI 0), .null, .null, .null, .null, .int (iI 0), .null, .null, .null, .int (iI 0), .null, .null, .null, .null, .null, .int (iI 0)])) := by rw [e_13]; exact up_f ha1 ho_8
  have ka1 : M_12 a1 = some ((1, 0), alc 0 G.2.2.2.1 0) := by rw [e_13]; exact up_s
  refine pq85 (fs' := [.int (iI 0), .int (iI 50), .int (iI 3), .int (iI 0), .ref a1, .null, .null, .null, .int (iI 0), .null, .null, .null, .int (iI 0), .null, .null, .null, .null, .null, .int (iI 0)]) hx rfl rfl dX0_init_23 ho_15 (Nat.le_of_ble_eq_true rfl) rfl ?_
  obtain ⟨M_16, e_17⟩ : ∃ M1 : gH, M1 = up M_12 c ((0, 0), .inr (0, [.int (iI 0), .int (iI 50), .int (iI 3), .int (iI 0), .ref a1, .null, .null, .null, .int (iI 0), .null, .null, .null, .int (iI 0), .null, .null, .null, .null, .null, .int (iI 0)])) := ⟨_, rfl⟩
  refine g_M e_17.symm ?_
  have f_18 : Fr (fun z => z = (0, 0)) M_12 M_16 := by rw [e_17]; exact Fr.ofUp ho_15 rfl
  have ho_19 : M_16 c = some ((0, 0), .inr (0, [.int (iI 0), .int (iI 50), .int (iI 3), .int (iI 0), .ref a1, .null, .null, .null, .int (iI 0), .null, .null, .null, .int (iI 0), .null, .null, .null, .null, .null, .int (iI 0)])) := by rw [e_17]; exact up_s
  refine g_aload_n hx 0 dX0_init_26 rfl rfl ?_
  refine g_bipush hx dX0_init_27 (by decide) ?_
  refine g_newi hx (2, 0) 30 (by decide) (Nat.le_of_ble_eq_true rfl) (Nat.le_of_ble_eq_true rfl) dX0_init_29 (fun a2 ha2 hba2 => ?_)
  obtain ⟨M_20, e_21⟩ : ∃ M1 : gH, M1 = up M_16 a2 ((2, 0), aI G 30 (fun _ => 0)) := ⟨_, rfl⟩
  refine g_M e_21.symm ?_
  have f_22 : Fr (fun z => z = (0, 0)) M_16 M_20 := by rw [e_21]; exact Fr.new ha2
  have ho_23 : M_20 c = some ((0, 0), .inr (0, [.int (iI 0), .int (iI 50), .int (iI 3), .int (iI 0), .ref a1, .null, .null, .null, .int (iI 0), .null, .null, .null, .int (iI 0), .null, .null, .null, .null, .null, .int (iI 0)])) := by rw [e_21]; exact up_f ha2 ho_19
  have ka2 : M_20 a2 = some ((2, 0), aI G 30 (fun _ => 0)) := by rw [e_21]; exact up_s
  refine pq86 (fs' := [.int (iI 0), .int (iI 50), .int (iI 3), .int (iI 0), .ref a1, .ref a2, .null, .null, .int (iI 0), .null, .null, .null, .int (iI 0), .null, .null, .null, .null, .null, .int (iI 0)]) hx rfl rfl dX0_init_31 ho_23 (Nat.le_of_ble_eq_true rfl) rfl ?_
  obtain ⟨M_24, e_25⟩ : ∃ M1 : gH, M1 = up M_20 c ((0, 0), .inr (0, [.int (iI 0), .int (iI 50), .int (iI 3), .int (iI 0), .ref a1, .ref a2, .null, .null, .int (iI 0), .null, .null, .null, .int (iI 0), .null, .null, .null, .null, .null, .int (iI 0)])) := ⟨_, rfl⟩
  refine g_M e_25.symm ?_
  have f_26 : Fr (fun z => z = (0, 0)) M_20 M_24 := by rw [e_25]; exact Fr.ofUp ho_23 rfl
  have ho_27 : M_24 c = some ((0, 0), .inr (0, [.int (iI 0), .int (iI 50), .int (iI 3), .int (iI 0), .ref a1, .ref a2, .null, .null, .int (iI 0), .null, .null, .null, .int (iI 0), .null, .null, .null, .null, .null, .int (iI 0)])) := by rw [e_25]; exact up_s
  refine g_aload_n hx 0 dX0_init_34 rfl rfl ?_
  refine g_bipush hx dX0_init_35 (by decide) ?_
  refine g_newi hx (3, 0) 30 (by decide) (Nat.le_of_ble_eq_true rfl) (Nat.le_of_ble_eq_true rfl) dX0_init_37 (fun a3 ha3 hba3 => ?_)
  obtain ⟨M_28, e_29⟩ : ∃ M1 : gH, M1 = up M_24 a3 ((3, 0), aI G 30 (fun _ => 0)) := ⟨_, rfl⟩
  refine g_M e_29.symm ?_
  have f_30 : Fr (fun z => z = (0, 0)) M_24 M_28 := by rw [e_29]; exact Fr.new ha3
  have ho_31 : M_28 c = some ((0, 0), .inr (0, [.int (iI 0), .int (iI 50), .int (iI 3), .int (iI 0), .ref a1, .ref a2, .null, .null, .int (iI 0), .null, .null, .null, .int (iI 0), .null, .null, .null, .null, .null, .int (iI 0)])) := by rw [e_29]; exact up_f ha3 ho_27
  have ka3 : M_28 a3 = some ((3, 0), aI G 30 (fun _ => 0)) := by rw [e_29]; exact up_s
  refine pq87 (fs' := [.int (iI 0), .int (iI 50), .int (iI 3), .int (iI 0), .ref a1, .ref a2, .ref a3, .null, .int (iI 0), .null, .null, .null, .int (iI 0), .null, .null, .null, .null, .null, .int (iI 0)]) hx rfl rfl dX0_init_39 ho_31 (Nat.le_of_ble_eq_true rfl) rfl ?_
  obtain ⟨M_32, e_33⟩ : ∃ M1 : gH, M1 = up M_28 c ((0, 0), .inr (0, [.int (iI 0), .int (iI 50), .int (iI 3), .int (iI 0), .ref a1, .ref a2, .ref a3, .null, .int (iI 0), .null, .null, .null, .int (iI 0), .null, .null, .null, .null, .null, .int (iI 0)])) := ⟨_, rfl⟩
  refine g_M e_33.symm ?_
  have f_34 : Fr (fun z => z = (0, 0)) M_28 M_32 := by rw [e_33]; exact Fr.ofUp ho_31 rfl
  have ho_35 : M_32 c = some ((0, 0), .inr (0, [.int (iI 0), .int (iI 50), .int (iI 3), .int (iI 0), .ref a1, .ref a2, .ref a3, .null, .int (iI 0), .null, .null, .null, .int (iI 0), .null, .null, .null, .null, .null, .int (iI 0)])) := by rw [e_33]; exact up_s
  refine g_aload_n hx 0 dX0_init_42 rfl rfl ?_
  refine g_bipush hx dX0_init_43 (by decide) ?_
  refine g_newi hx (4, 0) 30 (by decide) (Nat.le_of_ble_eq_true rfl) (Nat.le_of_ble_eq_true rfl) dX0_init_45 (fun a4 ha4 hba4 => ?_)
  obtain ⟨M_36, e_37⟩ : ∃ M1 : gH, M1 = up M_32 a4 ((4, 0), aI G 30 (fun _ => 0)) := ⟨_, rfl⟩
  refine g_M e_37.symm ?_
  have f_38 : Fr (fun z => z = (0, 0)) M_32 M_36 := by rw [e_37]; exact Fr.new ha4
  have ho_39 : M_36 c = some ((0, 0), .inr (0, [.int (iI 0), .int (iI 50), .int (iI 3), .int (iI 0), .ref a1, .ref a2, .ref a3, .null, .int (iI 0), .null, .null, .null, .int (iI 0), .null, .null, .null, .null, .null, .int (iI 0)])) := by rw [e_37]; exact up_f ha4 ho_35
  have ka4 : M_36 a4 = some ((4, 0), aI G 30 (fun _ => 0)) := by rw [e_37]; exact up_s
  refine pq88 (fs' := [.int (iI 0), .int (iI 50), .int (iI 3), .int (iI 0), .ref a1, .ref a2, .ref a3, .ref a4, .int (iI 0), .null, .null, .null, .int (iI 0), .null, .null, .null, .null, .null, .int (iI 0)]) hx rfl rfl dX0_init_47 ho_39 (Nat.le_of_ble_eq_true rfl) rfl ?_
  obtain ⟨M_40, e_41⟩ : ∃ M1 : gH, M1 = up M_36 c ((0, 0), .inr (0, [.int (iI 0), .int (iI 50), .int (iI 3), .int (iI 0), .ref a1, .ref a2, .ref a3, .ref a4, .int (iI 0), .null, .null, .null, .int (iI 0), .null, .null, .null, .null, .null, .int (iI 0)])) := ⟨_, rfl⟩
  refine g_M e_41.symm ?_
  have f_42 : Fr (fun z => z = (0, 0)) M_36 M_40 := by rw [e_41]; exact Fr.ofUp ho_39 rfl
  have ho_43 : M_40 c = some ((0, 0), .inr (0, [.int (iI 0), .int (iI 50), .int (iI 3), .int (iI 0), .ref a1, .ref a2, .ref a3, .ref a4, .int (iI 0), .null, .null, .null, .int (iI 0), .null, .null, .null, .null, .null, .int (iI 0)])) := by rw [e_41]; exact up_s
  refine g_aload_n hx 0 dX0_init_50 rfl rfl ?_
  refine g_bipush hx dX0_init_51 (by decide) ?_
  refine g_newi hx (5, 0) 60 (by decide) (Nat.le_of_ble_eq_true rfl) (Nat.le_of_ble_eq_true rfl) dX0_init_53 (fun a5 ha5 hba5 => ?_)
  obtain ⟨M_44, e_45⟩ : ∃ M1 : gH, M1 = up M_40 a5 ((5, 0), aI G 60 (fun _ => 0)) := ⟨_, rfl⟩
  refine g_M e_45.symm ?_
  have f_46 : Fr (fun z => z = (0, 0)) M_40 M_44 := by rw [e_45]; exact Fr.new ha5
  have ho_47 : M_44 c = some ((0, 0), .inr (0, [.int (iI 0), .int (iI 50), .int (iI 3), .int (iI 0), .ref a1, .ref a2, .ref a3, .ref a4, .int (iI 0), .null, .null, .null, .int (iI 0), .null, .null, .null, .null, .null, .int (iI 0)])) := by rw [e_45]; exact up_f ha5 ho_43
  have ka5 : M_44 a5 = some ((5, 0), aI G 60 (fun _ => 0)) := by rw [e_45]; exact up_s
  refine pq90 (fs' := [.int (iI 0), .int (iI 50), .int (iI 3), .int (iI 0), .ref a1, .ref a2, .ref a3, .ref a4, .int (iI 0), .ref a5, .null, .null, .int (iI 0), .null, .null, .null, .null, .null, .int (iI 0)]) hx rfl rfl dX0_init_55 ho_47 (Nat.le_of_ble_eq_true rfl) rfl ?_
  obtain ⟨M_48, e_49⟩ : ∃ M1 : gH, M1 = up M_44 c ((0, 0), .inr (0, [.int (iI 0), .int (iI 50), .int (iI 3), .int (iI 0), .ref a1, .ref a2, .ref a3, .ref a4, .int (iI 0), .ref a5, .null, .null, .int (iI 0), .null, .null, .null, .null, .null, .int (iI 0)])) := ⟨_, rfl⟩
  refine g_M e_49.symm ?_
  have f_50 : Fr (fun z => z = (0, 0)) M_44 M_48 := by rw [e_49]; exact Fr.ofUp ho_47 rfl
  have ho_51 : M_48 c = some ((0, 0), .inr (0, [.int (iI 0), .int (iI 50), .int (iI 3), .int (iI 0), .ref a1, .ref a2, .ref a3, .ref a4, .int (iI 0), .ref a5, .null, .null, .int (iI 0), .null, .null, .null, .null, .null, .int (iI 0)])) := by rw [e_49]; exact up_s
  refine g_aload_n hx 0 dX0_init_58 rfl rfl ?_
  refine g_bipush hx dX0_init_59 (by decide) ?_
  refine g_newi hx (6, 0) 60 (by decide) (Nat.le_of_ble_eq_true rfl) (Nat.le_of_ble_eq_true rfl) dX0_init_61 (fun a6 ha6 hba6 => ?_)
  obtain ⟨M_52, e_53⟩ : ∃ M1 : gH, M1 = up M_48 a6 ((6, 0), aI G 60 (fun _ => 0)) := ⟨_, rfl⟩
  refine g_M e_53.symm ?_
  have f_54 : Fr (fun z => z = (0, 0)) M_48 M_52 := by rw [e_53]; exact Fr.new ha6
  have ho_55 : M_52 c = some ((0, 0), .inr (0, [.int (iI 0), .int (iI 50), .int (iI 3), .int (iI 0), .ref a1, .ref a2, .ref a3, .ref a4, .int (iI 0), .ref a5, .null, .null, .int (iI 0), .null, .null, .null, .null, .null, .int (iI 0)])) := by rw [e_53]; exact up_f ha6 ho_51
  have ka6 : M_52 a6 = some ((6, 0), aI G 60 (fun _ => 0)) := by rw [e_53]; exact up_s
  refine pq91 (fs' := [.int (iI 0), .int (iI 50), .int (iI 3), .int (iI 0), .ref a1, .ref a2, .ref a3, .ref a4, .int (iI 0), .ref a5, .ref a6, .null, .int (iI 0), .null, .null, .null, .null, .null, .int (iI 0)]) hx rfl rfl dX0_init_63 ho_55 (Nat.le_of_ble_eq_true rfl) rfl ?_
  obtain ⟨M_56, e_57⟩ : ∃ M1 : gH, M1 = up M_52 c ((0, 0), .inr (0, [.int (iI 0), .int (iI 50), .int (iI 3), .int (iI 0), .ref a1, .ref a2, .ref a3, .ref a4, .int (iI 0), .ref a5, .ref a6, .null, .int (iI 0), .null, .null, .null, .null, .null, .int (iI 0)])) := ⟨_, rfl⟩
  refine g_M e_57.symm ?_
  have f_58 : Fr (fun z => z = (0, 0)) M_52 M_56 := by rw [e_57]; exact Fr.ofUp ho_55 rfl
  have ho_59 : M_56 c = some ((0, 0), .inr (0, [.int (iI 0), .int (iI 50), .int (iI 3), .int (iI 0), .ref a1, .ref a2, .ref a3, .ref a4, .int (iI 0), .ref a5, .ref a6, .null, .int (iI 0), .null, .null, .null, .null, .null, .int (iI 0)])) := by rw [e_57]; exact up_s
  refine g_aload_n hx 0 dX0_init_66 rfl rfl ?_
  refine g_bipush hx dX0_init_67 (by decide) ?_
  refine g_newz hx (7, 0) 60 (by decide) (Nat.le_of_ble_eq_true rfl) (Nat.le_of_ble_eq_true rfl) dX0_init_69 (fun a7 ha7 hba7 => ?_)
  obtain ⟨M_60, e_61⟩ : ∃ M1 : gH, M1 = up M_56 a7 ((7, 0), aZ G 60 (fun _ => 0)) := ⟨_, rfl⟩
  refine g_M e_61.symm ?_
  have f_62 : Fr (fun z => z = (0, 0)) M_56 M_60 := by rw [e_61]; exact Fr.new ha7
  have ho_63 : M_60 c = some ((0, 0), .inr (0, [.int (iI 0), .int (iI 50), .int (iI 3), .int (iI 0), .ref a1, .ref a2, .ref a3, .ref a4, .int (iI 0), .ref a5, .ref a6, .null, .int (iI 0), .null, .null, .null, .null, .null, .int (iI 0)])) := by rw [e_61]; exact up_f ha7 ho_59
  have ka7 : M_60 a7 = some ((7, 0), aZ G 60 (fun _ => 0)) := by rw [e_61]; exact up_s
  refine pq92 (fs' := [.int (iI 0), .int (iI 50), .int (iI 3), .int (iI 0), .ref a1, .ref a2, .ref a3, .ref a4, .int (iI 0), .ref a5, .ref a6, .ref a7, .int (iI 0), .null, .null, .null, .null, .null, .int (iI 0)]) hx rfl rfl dX0_init_71 ho_63 (Nat.le_of_ble_eq_true rfl) rfl ?_
  obtain ⟨M_64, e_65⟩ : ∃ M1 : gH, M1 = up M_60 c ((0, 0), .inr (0, [.int (iI 0), .int (iI 50), .int (iI 3), .int (iI 0), .ref a1, .ref a2, .ref a3, .ref a4, .int (iI 0), .ref a5, .ref a6, .ref a7, .int (iI 0), .null, .null, .null, .null, .null, .int (iI 0)])) := ⟨_, rfl⟩
  refine g_M e_65.symm ?_
  have f_66 : Fr (fun z => z = (0, 0)) M_60 M_64 := by rw [e_65]; exact Fr.ofUp ho_63 rfl
  have ho_67 : M_64 c = some ((0, 0), .inr (0, [.int (iI 0), .int (iI 50), .int (iI 3), .int (iI 0), .ref a1, .ref a2, .ref a3, .ref a4, .int (iI 0), .ref a5, .ref a6, .ref a7, .int (iI 0), .null, .null, .null, .null, .null, .int (iI 0)])) := by rw [e_65]; exact up_s
  refine g_aload_n hx 0 dX0_init_74 rfl rfl ?_
  refine g_new hx (20, 0) (ci := 4) (C := RJ2) (T := TJ2) (N := 3) (fs := [.int (iI 0), .null, .int (iI 0)]) rfl in_J2 tyJ2_ok q53 q54 q34 dfJ2 (Nat.le_of_ble_eq_true rfl) (Nat.le_of_ble_eq_true rfl) dX0_init_75 (fun a20 ha20 hba20 => ?_)
  refine g_dup hx dX0_init_78 rfl ?_
  refine g_callI (rest := [.ref a20, .ref c]) (na := 0) hx (k_J2_init l G (up M_64 a20 ((20, 0), al0)) a20 (20, 0) up_s) (lw_meth q57) q34 q55 q56 rfl rfl rfl (by decide +kernel) rfl ⟨Nat.le_of_ble_eq_true rfl, Nat.le_of_ble_eq_true rfl⟩ rfl (Nat.le_of_ble_eq_true rfl) dX0_init_79 ⟨Nat.le_of_ble_eq_true rfl, Nat.le_of_ble_eq_true rfl⟩ (fun v_68 M_69 h_70 => ?_)
  obtain ⟨rfl, rfl⟩ := h_70
  refine g_M up_up ?_
  obtain ⟨M_71, e_72⟩ : ∃ M1 : gH, M1 = up M_64 a20 ((20, 0), alc 0 G.2.2.2.1 0) := ⟨_, rfl⟩
  refine g_M e_72.symm ?_
  have f_73 : Fr (fun z => z = (0, 0)) M_64 M_71 := by rw [e_72]; exact Fr.new ha20
  have ho_74 : M_71 c = some ((0, 0), .inr (0, [.int (iI 0), .int (iI 50), .int (iI 3), .int (iI 0), .ref a1, .ref a2, .ref a3, .ref a4, .int (iI 0), .ref a5, .ref a6, .ref a7, .int (iI 0), .null, .null, .null, .null, .null, .int (iI 0)])) := by rw [e_72]; exact up_f ha20 ho_67
  have ka20 : M_71 a20 = some ((20, 0), alc 0 G.2.2.2.1 0) := by rw [e_72]; exact up_s
  refine pq94 (fs' := [.int (iI 0), .int (iI 50), .int (iI 3), .int (iI 0), .ref a1, .ref a2, .ref a3, .ref a4, .int (iI 0), .ref a5, .ref a6, .ref a7, .int (iI 0), .ref a20, .null, .null, .null, .null, .int (iI 0)]) hx rfl rfl dX0_init_82 ho_74 (Nat.le_of_ble_eq_true rfl) rfl ?_
  obtain ⟨M_75, e_76⟩ : ∃ M1 : gH, M1 = up M_71 c ((0, 0), .inr (0, [.int (iI 0), .int (iI 50), .int (iI 3), .int (iI 0), .ref a1, .ref a2, .ref a3, .ref a4, .int (iI 0), .ref a5, .ref a6, .ref a7, .int (iI 0), .ref a20, .null, .null, .null, .null, .int (iI 0)])) := ⟨_, rfl⟩
  refine g_M e_76.symm ?_
  have f_77 : Fr (fun z => z = (0, 0)) M_71 M_75 := by rw [e_76]; exact Fr.ofUp ho_74 rfl
  have ho_78 : M_75 c = some ((0, 0), .inr (0, [.int (iI 0), .int (iI 50), .int (iI 3), .int (iI 0), .ref a1, .ref a2, .ref a3, .ref a4, .int (iI 0), .ref a5, .ref a6, .ref a7, .int (iI 0), .ref a20, .null, .null, .null, .null, .int (iI 0)])) := by rw [e_76]; exact up_s
  refine g_aload_n hx 0 dX0_init_85 rfl rfl ?_
  refine g_sipush hx dX0_init_86 (by decide) ?_
  refine g_newi hx (21, 0) 200 (by decide) (Nat.le_of_ble_eq_true rfl) (Nat.le_of_ble_eq_true rfl) dX0_init_89 (fun a21 ha21 hba21 => ?_)
  obtain ⟨M_79, e_80⟩ : ∃ M1 : gH, M1 = up M_75 a21 ((21, 0), aI G 200 (fun _ => 0)) := ⟨_, rfl⟩
  refine g_M e_80.symm ?_
  have f_81 : Fr (fun z => z = (0, 0)) M_75 M_79 := by rw [e_80]; exact Fr.new ha21
  have ho_82 : M_79 c = some ((0, 0), .inr (0, [.int (iI 0), .int (iI 50), .int (iI 3), .int (iI 0), .ref a1, .ref a2, .ref a3, .ref a4, .int (iI 0), .ref a5, .ref a6, .ref a7, .int (iI 0), .ref a20, .null, .null, .null, .null, .int (iI 0)])) := by rw [e_80]; exact up_f ha21 ho_78
  have ka21 : M_79 a21 = some ((21, 0), aI G 200 (fun _ => 0)) := by rw [e_80]; exact up_s
  refine pq95 (fs' := [.int (iI 0), .int (iI 50), .int (iI 3), .int (iI 0), .ref a1, .ref a2, .ref a3, .ref a4, .int (iI 0), .ref a5, .ref a6, .ref a7, .int (iI 0), .ref a20, .ref a21, .null, .null, .null, .int (iI 0)]) hx rfl rfl dX0_init_91 ho_82 (Nat.le_of_ble_eq_true rfl) rfl ?_
  obtain ⟨M_83, e_84⟩ : ∃ M1 : gH, M1 = up M_79 c ((0, 0), .inr (0, [.int (iI 0), .int (iI 50), .int (iI 3), .int (iI 0), .ref a1, .ref a2, .ref a3, .ref a4, .int (iI 0), .ref a5, .ref a6, .ref a7, .int (iI 0), .ref a20, .ref a21, .null, .null, .null, .int (iI 0)])) := ⟨_, rfl⟩
  refine g_M e_84.symm ?_
  have f_85 : Fr (fun z => z = (0, 0)) M_79 M_83 := by rw [e_84]; exact Fr.ofUp ho_82 rfl
  have ho_86 : M_83 c = some ((0, 0), .inr (0, [.int (iI 0), .int (iI 50), .int (iI 3), .int (iI 0), .ref a1, .ref a2, .ref a3, .ref a4, .int (iI 0), .ref a5, .ref a6, .ref a7, .int (iI 0), .ref a20, .ref a21, .null, .null, .null, .int (iI 0)])) := by rw [e_84]; exact up_s
  refine g_aload_n hx 0 dX0_init_94 rfl rfl ?_
  refine g_new hx (22, 0) (ci := 4) (C := RJ2) (T := TJ2) (N := 3) (fs := [.int (iI 0), .null, .int (iI 0)]) rfl in_J2 tyJ2_ok q53 q54 q34 dfJ2 (Nat.le_of_ble_eq_true rfl) (Nat.le_of_ble_eq_true rfl) dX0_init_95 (fun a22 ha22 hba22 => ?_)
  refine g_dup hx dX0_init_98 rfl ?_
  refine g_callI (rest := [.ref a22, .ref c]) (na := 0) hx (k_J2_init l G (up M_83 a22 ((22, 0), al0)) a22 (22, 0) up_s) (lw_meth q57) q34 q55 q56 rfl rfl rfl (by decide +kernel) rfl ⟨Nat.le_of_ble_eq_true rfl, Nat.le_of_ble_eq_true rfl⟩ rfl (Nat.le_of_ble_eq_true rfl) dX0_init_99 ⟨Nat.le_of_ble_eq_true rfl, Nat.le_of_ble_eq_true rfl⟩ (fun v_87 M_88 h_89 => ?_)
  obtain ⟨rfl, rfl⟩ := h_89
  refine g_M up_up ?_
  obtain ⟨M_90, e_91⟩ : ∃ M1 : gH, M1 = up M_83 a22 ((22, 0), alc 0 G.2.2.2.1 0) := ⟨_, rfl⟩
  refine g_M e_91.symm ?_
  have f_92 : Fr (fun z => z = (0, 0)) M_83 M_90 := by rw [e_91]; exact Fr.new ha22
  have ho_93 : M_90 c = some ((0, 0), .inr (0, [.int (iI 0), .int (iI 50), .int (iI 3), .int (iI 0), .ref a1, .ref a2, .ref a3, .ref a4, .int (iI 0), .ref a5, .ref a6, .ref a7, .int (iI 0), .ref a20, .ref a21, .null, .null, .null, .int (iI 0)])) := by rw [e_91]; exact up_f ha22 ho_86
  have ka22 : M_90 a22 = some ((22, 0), alc 0 G.2.2.2.1 0) := by rw [e_91]; exact up_s
  refine pq96 (fs' := [.int (iI 0), .int (iI 50), .int (iI 3), .int (iI 0), .ref a1, .ref a2, .ref a3, .ref a4, .int (iI 0), .ref a5, .ref a6, .ref a7, .int (iI 0), .ref a20, .ref a21, .ref a22, .null, .null, .int (iI 0)]) hx rfl rfl dX0_init_102 ho_93 (Nat.le_of_ble_eq_true rfl) rfl ?_
  obtain ⟨M_94, e_95⟩ : ∃ M1 : gH, M1 = up M_90 c ((0, 0), .inr (0, [.int (iI 0), .int (iI 50), .int (iI 3), .int (iI 0), .ref a1, .ref a2, .ref a3, .ref a4, .int (iI 0), .ref a5, .ref a6, .ref a7, .int (iI 0), .ref a20, .ref a21, .ref a22, .null, .null, .int (iI 0)])) := ⟨_, rfl⟩
  refine g_M e_95.symm ?_
  have f_96 : Fr (fun z => z = (0, 0)) M_90 M_94 := by rw [e_95]; exact Fr.ofUp ho_93 rfl
  have ho_97 : M_94 c = some ((0, 0), .inr (0, [.int (iI 0), .int (iI 50), .int (iI 3), .int (iI 0), .ref a1, .ref a2, .ref a3, .ref a4, .int (iI 0), .ref a5, .ref a6, .ref a7, .int (iI 0), .ref a20, .ref a21, .ref a22, .null, .null, .int (iI 0)])) := by rw [e_95]; exact up_s
  refine g_aload_n hx 0 dX0_init_105 rfl rfl ?_
  refine g_new hx (23, 0) (ci := 4) (C := RJ2) (T := TJ2) (N := 3) (fs := [.int (iI 0), .null, .int (iI 0)]) rfl in_J2 tyJ2_ok q53 q54 q34 dfJ2 (Nat.le_of_ble_eq_true rfl) (Nat.le_of_ble_eq_true rfl) dX0_init_106 (fun a23 ha23 hba23 => ?_)
  refine g_dup hx dX0_init_109 rfl ?_
  refine g_callI (rest := [.ref a23, .ref c]) (na := 0) hx (k_J2_init l G (up M_94 a23 ((23, 0), al0)) a23 (23, 0) up_s) (lw_meth q57) q34 q55 q56 rfl rfl rfl (by decide +kernel) rfl ⟨Nat.le_of_ble_eq_true rfl, Nat.le_of_ble_eq_true rfl⟩ rfl (Nat.le_of_ble_eq_true rfl) dX0_init_110 ⟨Nat.le_of_ble_eq_true rfl, Nat.le_of_ble_eq_true rfl⟩ (fun v_98 M_99 h_100 => ?_)
  obtain ⟨rfl, rfl⟩ := h_100
  refine g_M up_up ?_
  obtain ⟨M_101, e_102⟩ : ∃ M1 : gH, M1 = up M_94 a23 ((23, 0), alc 0 G.2.2.2.1 0) := ⟨_, rfl⟩
  refine g_M e_102.symm ?_
  have f_103 : Fr (fun z => z = (0, 0)) M_94 M_101 := by rw [e_102]; exact Fr.new ha23
  have ho_104 : M_101 c = some ((0, 0), .inr (0, [.int (iI 0), .int (iI 50), .int (iI 3), .int (iI 0), .ref a1, .ref a2, .ref a3, .ref a4, .int (iI 0), .ref a5, .ref a6, .ref a7, .int (iI 0), .ref a20, .ref a21, .ref a22, .null, .null, .int (iI 0)])) := by rw [e_102]; exact up_f ha23 ho_97
  have ka23 : M_101 a23 = some ((23, 0), alc 0 G.2.2.2.1 0) := by rw [e_102]; exact up_s
  refine pq97 (fs' := [.int (iI 0), .int (iI 50), .int (iI 3), .int (iI 0), .ref a1, .ref a2, .ref a3, .ref a4, .int (iI 0), .ref a5, .ref a6, .ref a7, .int (iI 0), .ref a20, .ref a21, .ref a22, .ref a23, .null, .int (iI 0)]) hx rfl rfl dX0_init_113 ho_104 (Nat.le_of_ble_eq_true rfl) rfl ?_
  obtain ⟨M_105, e_106⟩ : ∃ M1 : gH, M1 = up M_101 c ((0, 0), .inr (0, [.int (iI 0), .int (iI 50), .int (iI 3), .int (iI 0), .ref a1, .ref a2, .ref a3, .ref a4, .int (iI 0), .ref a5, .ref a6, .ref a7, .int (iI 0), .ref a20, .ref a21, .ref a22, .ref a23, .null, .int (iI 0)])) := ⟨_, rfl⟩
  refine g_M e_106.symm ?_
  have f_107 : Fr (fun z => z = (0, 0)) M_101 M_105 := by rw [e_106]; exact Fr.ofUp ho_104 rfl
  have ho_108 : M_105 c = some ((0, 0), .inr (0, [.int (iI 0), .int (iI 50), .int (iI 3), .int (iI 0), .ref a1, .ref a2, .ref a3, .ref a4, .int (iI 0), .ref a5, .ref a6, .ref a7, .int (iI 0), .ref a20, .ref a21, .ref a22, .ref a23, .null, .int (iI 0)])) := by rw [e_106]; exact up_s
  refine g_aload_n hx 0 dX0_init_116 rfl rfl ?_
  refine g_bipush hx dX0_init_117 (by decide) ?_
  refine g_sipush hx dX0_init_119 (by decide) ?_
  refine g_grid hx (24, 0) (fun i => (25, i)) 13 301 (by decide) (by decide) q79 (Nat.le_of_ble_eq_true rfl) (Nat.le_of_ble_eq_true rfl) dX0_init_122 (fun a24 ha24 hba24 => ?_)
  have hgn : ∀ q z, M_105 q = some z → gdM G M_105 a24 13 301 (24, 0) (fun i => (25, i)) q = some z := fun q z hq => by
    have hlt : q < a24 := by rcases Nat.lt_or_ge q a24 with h | h; (· exact h); (· rw [ha24 q h] at hq; cases hq)
    unfold gdM; rw [if_neg (by omega), if_neg (by omega)]; exact hq
  obtain ⟨M_109, e_110⟩ : ∃ M1 : gH, M1 = gdM G M_105 a24 13 301 (24, 0) (fun i => (25, i)) := ⟨_, rfl⟩
  refine g_M e_110.symm ?_
  have f_111 : Fr (fun z => z = (0, 0)) M_105 M_109 := by rw [e_110]; exact fun q z hq _ => hgn q z hq
  have ho_112 : M_109 c = some ((0, 0), .inr (0, [.int (iI 0), .int (iI 50), .int (iI 3), .int (iI 0), .ref a1, .ref a2, .ref a3, .ref a4, .int (iI 0), .ref a5, .ref a6, .ref a7, .int (iI 0), .ref a20, .ref a21, .ref a22, .ref a23, .null, .int (iI 0)])) := by rw [e_110]; exact hgn _ _ ho_108
  have ka24 : M_109 a24 = some ((24, 0), aG G 13 (fun i => some (a24 + 1 + i))) := by rw [e_110]; unfold gdM; rw [if_pos rfl]
  have kr : ∀ i, i < 13 → M_109 (a24 + 1 + i) = some ((25, i), aI G 301 (fun _ => 0)) := fun i hi => by rw [e_110]; unfold gdM; rw [if_neg (by omega), if_pos (by omega), show a24 + 1 + i - (a24 + 1) = i by omega]
  refine pq98 (fs' := [.int (iI 0), .int (iI 50), .int (iI 3), .int (iI 0), .ref a1, .ref a2, .ref a3, .ref a4, .int (iI 0), .ref a5, .ref a6, .ref a7, .int (iI 0), .ref a20, .ref a21, .ref a22, .ref a23, .ref a24, .int (iI 0)]) hx rfl rfl dX0_init_126 ho_112 (Nat.le_of_ble_eq_true rfl) rfl ?_
  obtain ⟨M_113, e_114⟩ : ∃ M1 : gH, M1 = up M_109 c ((0, 0), .inr (0, [.int (iI 0), .int (iI 50), .int (iI 3), .int (iI 0), .ref a1, .ref a2, .ref a3, .ref a4, .int (iI 0), .ref a5, .ref a6, .ref a7, .int (iI 0), .ref a20, .ref a21, .ref a22, .ref a23, .ref a24, .int (iI 0)])) := ⟨_, rfl⟩
  refine g_M e_114.symm ?_
  have f_115 : Fr (fun z => z = (0, 0)) M_109 M_113 := by rw [e_114]; exact Fr.ofUp ho_112 rfl
  have ho_116 : M_113 c = some ((0, 0), .inr (0, [.int (iI 0), .int (iI 50), .int (iI 3), .int (iI 0), .ref a1, .ref a2, .ref a3, .ref a4, .int (iI 0), .ref a5, .ref a6, .ref a7, .int (iI 0), .ref a20, .ref a21, .ref a22, .ref a23, .ref a24, .int (iI 0)])) := by rw [e_114]; exact up_s
  have F26 : Fr (fun z => z = (0, 0)) M_113 M_113 := Fr.rf
  have F25 := (f_115).tr F26
  have F24 := (f_111).tr F25
  have F23 := (f_107).tr F24
  have F22 := (f_103).tr F23
  have F21 := (f_96).tr F22
  have F20 := (f_92).tr F21
  have F19 := (f_85).tr F20
  have F18 := (f_81).tr F19
  have F17 := (f_77).tr F18
  have F16 := (f_73).tr F17
  have F15 := (f_66).tr F16
  have F14 := (f_62).tr F15
  have F13 := (f_58).tr F14
  have F12 := (f_54).tr F13
  have F11 := (f_50).tr F12
  have F10 := (f_46).tr F11
  have F9 := (f_42).tr F10
  have F8 := (f_38).tr F9
  have F7 := (f_34).tr F8
  have F6 := (f_30).tr F7
  have F5 := (f_26).tr F6
  have F4 := (f_22).tr F5
  have F3 := (f_18).tr F4
  have F2 := (f_14).tr F3
  have F1 := (f_7).tr F2
  have F0 := (f_3).tr F1
  have ga1 := F3 _ _ ka1 (by simp)
  have ga2 := F5 _ _ ka2 (by simp)
  have ga3 := F7 _ _ ka3 (by simp)
  have ga4 := F9 _ _ ka4 (by simp)
  have ga5 := F11 _ _ ka5 (by simp)
  have ga6 := F13 _ _ ka6 (by simp)
  have ga7 := F15 _ _ ka7 (by simp)
  have ga20 := F17 _ _ ka20 (by simp)
  have ga21 := F19 _ _ ka21 (by simp)
  have ga22 := F21 _ _ ka22 (by simp)
  have ga23 := F23 _ _ ka23 (by simp)
  have ga24 := F25 _ _ ka24 (by simp)
  have gr := fun i hi => F25 _ _ (kr i hi) (by simp)
  obtain ⟨g, hg⟩ : ∃ g : gA2, ∀ p q, g p q = if p = 0 then c else if p = 1 then a1 else if p = 2 then a2 else if p = 3 then a3 else if p = 4 then a4 else if p = 5 then a5 else if p = 6 then a6 else if p = 7 then a7 else if p = 20 then a20 else if p = 21 then a21 else if p = 22 then a22 else if p = 23 then a23 else if p = 24 then a24 else if p = 25 then a24 + 1 + q else 0 := ⟨_, fun _ _ => rfl⟩
  have g_0 : g 0 0 = c := by rw [hg]; rfl
  have g_1 : g 1 0 = a1 := by rw [hg]; rfl
  have g_2 : g 2 0 = a2 := by rw [hg]; rfl
  have g_3 : g 3 0 = a3 := by rw [hg]; rfl
  have g_4 : g 4 0 = a4 := by rw [hg]; rfl
  have g_5 : g 5 0 = a5 := by rw [hg]; rfl
  have g_6 : g 6 0 = a6 := by rw [hg]; rfl
  have g_7 : g 7 0 = a7 := by rw [hg]; rfl
  have g_20 : g 20 0 = a20 := by rw [hg]; rfl
  have g_21 : g 21 0 = a21 := by rw [hg]; rfl
  have g_22 : g 22 0 = a22 := by rw [hg]; rfl
  have g_23 : g 23 0 = a23 := by rw [hg]; rfl
  have g_24 : g 24 0 = a24 := by rw [hg]; rfl
  have g_25 : ∀ i, g 25 i = a24 + 1 + i := fun i => by rw [hg]; rfl
  have hRC : RC G g M_113 sg0 0 0 := by
    refine ⟨by rw [g_0, ho_116]; simp only [cryF, g_1, g_2, g_3, g_4, g_5, g_6, g_7, g_20, g_21, g_22, g_23, g_24]; rfl, ⟨⟨0, _, by rw [g_1]; exact ga1, Or.inl ⟨rfl, rfl⟩⟩, fun i hi => by omega, fun i hi => by omega, ?_, ?_, ?_, ?_, ?_, ?_⟩, ⟨0, fun _ => 0, 0, _, by rw [g_20]; exact ga20, Or.inl ⟨rfl, rfl⟩⟩, ⟨fun _ => 0, by rw [g_21]; exact ga21⟩, ⟨0, fun _ => 0, 0, _, by rw [g_22]; exact ga22, Or.inl ⟨rfl, rfl⟩⟩, ⟨0, fun _ => 0, 0, _, by rw [g_23]; exact ga23, Or.inl ⟨rfl, rfl⟩⟩, ?_, fun i hi => ⟨fun _ => 0, by rw [g_25]; exact gr i hi⟩⟩
    · rw [g_2, sg0_k (by decide)]; exact ga2
    · rw [g_3, sg0_k (by decide)]; exact ga3
    · rw [g_4, sg0_k (by decide)]; exact ga4
    · rw [g_5, sg0_k (by decide)]; exact ga5
    · rw [g_6, sg0_k (by decide)]; exact ga6
    · rw [g_7, sg0_k (by decide)]; exact ga7
    · rw [g_24]; simp only [g_25]; exact ga24
  exact g_vret hx (Nat.le_of_ble_eq_true rfl) (Nat.le_of_ble_eq_true rfl) dX0_init_129 ⟨rfl, ⟨g, 0, g_0, hRC⟩, F0.mono (fun z hz => by rw [hz]; simp)⟩
