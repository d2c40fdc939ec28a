/-! A GRID of ints: 'multianewarray' of two dimensions, as one row -/
set_option maxRecDepth 100000
/-- the outer array when i of its N rows are made, rows from h + 1 on -/
def gdO (cA : ClassId) (N h i : Nat) : Cell := arrV cA N (fun j => if j < i then .ref (h + 1 + j) else .null)
def gdR (cI : ClassId) (K : Nat) : Cell := arrV cI K (fun _ => .int 0)
theorem gdO_0 (cA : ClassId) (N h : Nat) : ({ cls := cA, slots := Array.replicate N .null, vm := .none } : Cell) = gdO cA N h 0 := by
  rw [arrV_new]
  unfold gdO
  congr 1
theorem gdO_s (cA : ClassId) (N h i : Nat) : (gdO cA N h i).setSlot i (.ref (h + 1 + i)) = gdO cA N h (i + 1) := by
  unfold gdO
  rw [arrV_store]
  congr 1
  funext j
  unfold updV
  by_cases e : j = i
  · subst e; rw [if_pos rfl, if_pos (by omega)]
  · rw [if_neg e]
    show (if j < i then Value.ref (h + 1 + j) else Value.null) = _
    by_cases h' : j < i
    · rw [if_pos h', if_pos (show j < i + 1 by omega)]
    · rw [if_neg h', if_neg (show ¬ j < i + 1 by omega)]
def gd (U : State) (cA cI : ClassId) (N K : Nat) : Nat → State
  | 0 => U.pushCell (gdO cA N U.heap.size 0)
  | i + 1 => ((gd U cA cI N K i).pushCell (gdR cI K)).setCell U.heap.size (gdO cA N U.heap.size (i + 1))
section GD
variable {U : State} {cA cI : ClassId} {N K : Nat}
theorem gd_sz (i : Nat) : (gd U cA cI N K i).heap.size = U.heap.size + 1 + i := by
  induction i with
  | zero => show (U.pushCell _).heap.size = _; rw [size_pushCell]
  | succ i ih => show (((gd U cA cI N K i).pushCell _).setCell _ _).heap.size = _; rw [size_setCell, size_pushCell, ih]; omega
theorem gd_vm (i : Nat) : (gd U cA cI N K i).vm = U.vm := by
  induction i with
  | zero => rfl
  | succ i ih => exact ih
theorem gd_us (i : Nat) : (gd U cA cI N K i).slotsUsed = U.slotsUsed + N + i * K := by
  induction i with
  | zero => show U.slotsUsed + (gdO cA N U.heap.size 0).slots.size = _; unfold gdO; rw [arrV_size]; omega
  | succ i ih =>
    show (gd U cA cI N K i).slotsUsed + (gdR cI K).slots.size = _
    unfold gdR
    rw [arrV_size, ih, Nat.succ_mul]
    omega
theorem gd_out (i : Nat) : (gd U cA cI N K i).heap[U.heap.size]? = some (gdO cA N U.heap.size i) := by
  cases i with
  | zero => exact State.heap_pushCell_size _ _
  | succ i =>
    have h : U.heap.size < ((gd U cA cI N K i).pushCell (gdR cI K)).heap.size := by
      rw [size_pushCell, gd_sz]
      omega
    exact heapAt_setCell_self _ h
theorem gd_old {a : Nat} (ha : a < U.heap.size) (i : Nat) : (gd U cA cI N K i).heap[a]? = U.heap[a]? := by
  induction i with
  | zero => exact State.heap_pushCell_of_lt _ _ ha
  | succ i ih =>
    show (((gd U cA cI N K i).pushCell _).setCell _ _).heap[a]? = _
    have h1 : U.heap.size ≠ a := by omega
    have h2 : a < (gd U cA cI N K i).heap.size := by rw [gd_sz]; omega
    rw [heapAt_setCell_ne _ h1, State.heap_pushCell_of_lt _ _ h2]
    exact ih
theorem gd_row (i j : Nat) (hj : j < i) : (gd U cA cI N K i).heap[U.heap.size + 1 + j]? = some (gdR cI K) := by
  induction i with
  | zero => omega
  | succ i ih =>
    show (((gd U cA cI N K i).pushCell _).setCell _ _).heap[U.heap.size + 1 + j]? = _
    have h1 : U.heap.size ≠ U.heap.size + 1 + j := by omega
    rw [heapAt_setCell_ne _ h1]
    by_cases e : j = i
    · subst e
      rw [← gd_sz (U := U) (cA := cA) (cI := cI) (N := N) (K := K) j]
      exact State.heap_pushCell_size _ _
    · have h2 : U.heap.size + 1 + j < (gd U cA cI N K i).heap.size := by rw [gd_sz]; omega
      rw [State.heap_pushCell_of_lt _ _ h2]
      exact ih (by omega)
theorem gd_top (f : JFrame) (i : Nat) : gd (U.setTop f) cA cI N K i = (gd U cA cI N K i).setTop f := by
  induction i with
  | zero => rfl
  | succ i ih =>
    show (((gd (U.setTop f) cA cI N K i).pushCell _).setCell _ _) = _
    rw [ih]
    rfl
theorem gd_stand {p : Program} {l : Launch} {e : Env} {R : Room} {s : State} {m : MethodId} {args : Array Value} {below : List Frame} {meth : Method} {c : Code} {locs : List Loc} {cells slots : Nat} (X : Stand p l e R s m args below meth c U locs cells slots) (i : Nat) : Stand p l e R s m args below meth c (gd U cA cI N K i) (locs ++ (List.range i).map (fun j => ⟨U.heap.size, j⟩)) (cells + 1 + i) (slots + N + i * K) := by
  induction i with
  | zero =>
    have h := X.pushed (gdO cA N U.heap.size 0)
    rw [show (gdO cA N U.heap.size 0).slots.size = N from arrV_size _ _ _] at h
    simpa [gd] using h
  | succ i ih =>
    have h0 : ((gd U cA cI N K i).pushCell (gdR cI K)).heap[U.heap.size]? = some (gdO cA N U.heap.size i) := by
      have h2 : U.heap.size < (gd U cA cI N K i).heap.size := by rw [gd_sz]; omega
      rw [State.heap_pushCell_of_lt _ _ h2]
      exact gd_out i
    have h := (ih.pushed (gdR cI K)).stored h0 i (.ref (U.heap.size + 1 + i))
    rw [gdO_s, show (gdR cI K).slots.size = K from arrV_size _ _ _] at h
    rw [List.range_succ, List.map_append, ← List.append_assoc, show slots + N + (i + 1) * K = slots + N + i * K + K by rw [Nat.succ_mul]; omega]
    exact h
end GD
/-- what the model makes -/
theorem gd_wp {E : CtlPost} {e : Env} {d : Bool} {acts : List Action} {s : State} {cA cI cc : ClassId} {kA kI : Class} {n k : Int32} (hA : s.vm.classes[cA]? = some kA) (hkA : kA.kind = .array cI (.array .int)) (hI : s.vm.classes[cI]? = some kI) (hkI : kI.kind = .array cc .int) (hn : ¬ n < 0) (hk : ¬ k < 0)
    (a1 : ¬ n.toNatClampNeg > e.platform.arrayLengthLimit) (a2 : ¬ n.toNatClampNeg * componentBytes (.array .int) > e.platform.maxHeapBytes) (a3 : ¬ k.toNatClampNeg > e.platform.arrayLengthLimit) (a4 : ¬ k.toNatClampNeg * componentBytes .int > e.platform.maxHeapBytes)
    (b1 : s.heap.size + 1 + n.toNatClampNeg ≤ e.platform.maxCells) (b2 : s.slotsUsed + n.toNatClampNeg + n.toNatClampNeg * k.toNatClampNeg ≤ e.platform.maxSlots)
    {Q : Addr → Pre} (hq : ∀ d' acts', Q s.heap.size d' acts' (gd s cA cI n.toNatClampNeg k.toNatClampNeg n.toNatClampNeg)) : wp (multianewarray.make cA [n, k]) Q E e d acts s := by
  have nobad : ([k].find? (· < 0)) = none := by simp [hk]
  rw [multianewarray.make]
  simp only [wp_bind', W.ite, hn, if_false, wp_pure', W.theClass, hA, hkA, Option.some.injEq, exists_eq_left']
  refine W.newArray_of hA hkA a1 a2 (by omega) (by omega) rfl (fun acts1 => ?_)
  rw [gdO_0 cA n.toNatClampNeg s.heap.size]
  simp only [nobad]
  rw [ite_self, wp_bind', Std.Legacy.Range.forIn_eq_forIn_range']
  have hsz : ([:n.toNatClampNeg] : Std.Legacy.Range).size = n.toNatClampNeg := by simp [Std.Legacy.Range.size]
  rw [hsz]
  refine wp_forIn_inv (fun todo u => ∃ i, i ≤ n.toNatClampNeg ∧ todo = List.range' i (n.toNatClampNeg - i) ∧ u = gd s cA cI n.toNatClampNeg k.toNatClampNeg i) _ _ ⟨0, Nat.zero_le _, rfl, rfl⟩ ?_ ?_
  · rintro z todo u d' acts' Q' ⟨i, hi, hl, rfl⟩ hnext
    have hlt : i < n.toNatClampNeg := by
      rcases Nat.lt_or_ge i n.toNatClampNeg with h | h
      · exact h
      · rw [show n.toNatClampNeg - i = 0 by omega] at hl
        simp at hl
    rw [show n.toNatClampNeg - i = (n.toNatClampNeg - (i + 1)) + 1 by omega, List.range'_succ] at hl
    obtain ⟨rfl, hl⟩ := List.cons.inj hl
    have hmul : z * k.toNatClampNeg + k.toNatClampNeg ≤ n.toNatClampNeg * k.toNatClampNeg := by
      have := Nat.mul_le_mul_right k.toNatClampNeg (show z + 1 ≤ n.toNatClampNeg from hlt)
      rw [Nat.succ_mul] at this
      exact this
    have hI' : (gd s cA cI n.toNatClampNeg k.toNatClampNeg z).vm.classes[cI]? = some kI := by rw [gd_vm]; exact hI
    simp only [wp_bind']
    rw [multianewarray.make]
    simp only [wp_bind', W.ite, hk, if_false, wp_pure', W.theClass, hI', hkI, Option.some.injEq, exists_eq_left']
    refine W.newArray_of hI' hkI a3 a4 (by rw [gd_sz]; omega) (by rw [gd_us]; omega) rfl (fun acts2 => ?_)
    simp only [wp_bind', W.writeLoc, wp_pure']
    have hrow : ({ cls := cI, slots := Array.replicate k.toNatClampNeg (defaultValue .int) } : Cell) = gdR cI k.toNatClampNeg := arrV_new cI k.toNatClampNeg (.int 0)
    rw [hrow]
    have h0 : ((gd s cA cI n.toNatClampNeg k.toNatClampNeg z).pushCell (gdR cI k.toNatClampNeg)).heap[s.heap.size]? = some (gdO cA n.toNatClampNeg s.heap.size z) := by
      have h2 : s.heap.size < (gd s cA cI n.toNatClampNeg k.toNatClampNeg z).heap.size := by rw [gd_sz]; omega
      rw [State.heap_pushCell_of_lt _ _ h2]
      exact gd_out z
    refine ⟨_, h0, fun h => (by cases h), by show z < (arrV _ _ _).slots.size; rw [arrV_size]; exact hlt, ?_, ?_⟩
    · have hA' : (gd s cA cI n.toNatClampNeg k.toNatClampNeg z).vm.classes[cA]? = some kA := by rw [gd_vm]; exact hA
      show State.fitsSlot _ cA .none z _ = true
      simp [State.fitsSlot, State.slotType?, hA', hkA, fits]
    · rw [gd_sz, gdO_s]
      exact hnext _ _ _ ⟨z + 1, hlt, hl, rfl⟩
  · rintro u d' acts' ⟨i, hi, hl, rfl⟩
    have hiN : i = n.toNatClampNeg := by
      rcases Nat.lt_or_ge i n.toNatClampNeg with h | h
      · rw [show n.toNatClampNeg - i = (n.toNatClampNeg - (i + 1)) + 1 by omega, List.range'_succ] at hl
        cases hl
      · omega
    subst hiN
    simp only [wp_pure']
    exact hq _ _

theorem arrV_ext {c : ClassId} {N : Nat} {f g : Nat → Value} (h : ∀ j, j < N → f j = g j) : arrV c N f = arrV c N g := by
  unfold arrV
  congr 2
  funext j
  exact h j.val j.isLt
/-- the map with a grid more: the outer array at a, its rows behind it -/
def gdM (G : gG) (M : gH) (a N K : Nat) (labO : gL) (labR : Nat → gL) : gH := fun q => if q = a then some (labO, aG G N (fun i => some (a + 1 + i))) else if a < q ∧ q ≤ a + N then some (labR (q - (a + 1)), aI G K (fun _ => 0)) else M q
theorem g_grid {x : gX} {l : Launch} {G : gG} {y : MethodName} {cc : ByteArray} {rm : Room} {nl : Nat} {ret : Option FieldType} {Q : State → Prop} {M : gH} {k n pc : Nat} {lv : List (Nat × Value)} {st : List Value} (hx : GX x l G y cc rm nl ret) (labO : gL) (labR : Nat → gL) (N K : Nat) {index : Nat} (hN : N ≤ 1000) (hK : K ≤ 1000) (hq : Cond.classLink y.cls index "[[I" ∈ lw_all) (hc : k + (1 + N) ≤ rm.cells) (hs : n + (N + N * K) ≤ rm.slots) (hd : decode cc pc = .ok (.multianewarray index 2, 4)) (KK0 : ∀ a, (∀ q, a ≤ q → M q = none) → G.2.1 ≤ a → GW x Q (gdM G M a N K labO labR) (k + 1 + N) (n + N + N * K) (pc + 4) lv (.ref a :: st)) : GW x Q M k n pc lv (.int (iI (K : Int)) :: .int (iI (N : Int)) :: st) := by
  obtain ⟨p, l0, e, R, s, m, args, below, meth, c, G0, nL⟩ := x
  obtain ⟨rfl, rfl, rfl, rfl, h1, h2, h3, h4, h5, h6, h7, h8, h9, h10⟩ := hx
  intro H locs ls hM hS hl T hT X
  have hpl : e.platform.magicAccessors = ({} : Platform).magicAccessors := by rw [X.admits.platform]
  obtain ⟨c0, hf0, hcl⟩ := Cond.classLink_spec h4 (h6 _ hq) e.platform hpl
  have hcA : s.vm.findClass "[[I" = some (G0.2.2.1 3) := (h9.1.2 3 _ rfl).2
  cases hcA.symm.trans hf0
  obtain ⟨kA, hkA, hkindA⟩ := h9.2.2.2.2.2.2.2
  obtain ⟨-, kI, hkI, cI, hkindI⟩ := (h9.1.2 0 _ rfl).1 0 (fun _ => .null)
  obtain ⟨hg1, hw1, hr1⟩ := State.classEntry (e := e) X.warmed hcl
  generalize T.vm.noted m.cls index (.cls (G0.2.2.1 3)) = vm1 at hg1 hw1 hr1
  have hal : s.vm.Alike vm1 := hw1.alike
  obtain ⟨kA1, hkA1, heA⟩ := hal.2.2 _ _ hkA
  obtain ⟨kI1, hkI1, heI⟩ := hal.2.2 _ _ hkI
  have hkindA1 : kA1.kind = .array (G0.2.2.1 0) (.array .int) := by rw [heA]; exact hkindA
  have hkindI1 : kI1.kind = .array cI .int := by rw [heI]; exact hkindI
  have hNc : (iI (N : Int)).toNatClampNeg = N := iI_clamp (by omega)
  have hKc : (iI (K : Int)).toNatClampNeg = K := iI_clamp (by omega)
  have hn0 : ¬ iI (N : Int) < 0 := by rw [← nI_i]; exact nI_pos (by omega)
  have hk0 : ¬ iI (K : Int) < 0 := by rw [← nI_i]; exact nI_pos (by omega)
  obtain ⟨r1, r2⟩ := X.roomAbove hc hs
  have X1 := X.noted hw1
  have XF := gd_stand (cA := G0.2.2.1 3) (cI := G0.2.2.1 0) (N := N) (K := K) X1 N
  have hsz : (T.setVm vm1).heap.size = H.size := by rw [← hT]; rfl
  rw [hsz] at XF
  have hfr : ∀ q, H.size ≤ q → M q = none := by
    intro q hq'
    cases hm : M q with
    | none => rfl
    | some z => exact absurd (hM.lt hm) (by omega)
  have hb0 : G0.2.1 ≤ H.size := Nat.le_trans h10 hS.1
  have hM' : HM G0 (gdM G0 M H.size N K labO labR) (gd (T.setVm vm1) (G0.2.2.1 3) (G0.2.2.1 0) N K N).heap := by
    intro q z hz
    unfold gdM at hz
    by_cases e1 : q = H.size
    · rw [if_pos e1] at hz
      cases hz
      refine ⟨?_, by omega⟩
      subst e1
      show (gd (T.setVm vm1) (G0.2.2.1 3) (G0.2.2.1 0) N K N).heap[H.size]? = some (vp_cell _ _)
      rw [← hsz, gd_out, vp_cell_q]
      unfold gdO
      rw [arrV_ext]
      intro j hj
      rw [if_pos hj]
      rfl
    · rw [if_neg e1] at hz
      by_cases e2 : H.size < q ∧ q ≤ H.size + N
      · rw [if_pos e2] at hz
        cases hz
        refine ⟨?_, by omega⟩
        show (gd (T.setVm vm1) (G0.2.2.1 3) (G0.2.2.1 0) N K N).heap[q]? = some (vp_cell _ _)
        have hq2 : q = (T.setVm vm1).heap.size + 1 + (q - (H.size + 1)) := by rw [hsz]; omega
        rw [hq2, gd_row N (q - (H.size + 1)) (by omega), vp_cell_i]
        rfl
      · rw [if_neg e2] at hz
        have hlt := hM.lt hz
        refine ⟨(hM q z hz).1.kept ?_, (hM q z hz).2⟩
        show (gd (T.setVm vm1) (G0.2.2.1 3) (G0.2.2.1 0) N K N).heap[q]? = H[q]?
        rw [gd_old (by rw [hsz]; exact hlt), ← hT]
        rfl
  have hS' : va_S (gA G0) s.heap (gd (T.setVm vm1) (G0.2.2.1 3) (G0.2.2.1 0) N K N).heap (locs ++ (List.range N).map (fun j => (⟨H.size, j⟩ : Loc))) := by
    refine ⟨?_, fun q h1 h2 => ?_, fun z hz => ?_⟩
    · rw [gd_sz, hsz]; have := hS.1; omega
    · rw [gd_old (by rw [hsz]; have := hS.1; omega)]
      show T.heap[q]? = _
      rw [hT]
      exact hS.2.1 q h1 h2
    · rcases List.mem_append.mp hz with h | h
      · exact hS.2.2 z h
      · obtain ⟨j, -, rfl⟩ := List.mem_map.mp h
        exact hb0
  obtain ⟨t, s1, q1⟩ := KK0 H.size hfr hb0 _ _ ls hM' hS' hl _ rfl XF
  refine ⟨t, ?_, q1⟩
  have b1 : ¬ N > e.platform.arrayLengthLimit := by rw [Launch.admits_arrayLengthLimit X.admits]; omega
  have b2 : ¬ N * componentBytes (.array .int) > e.platform.maxHeapBytes := by rw [Launch.admits_maxHeapBytes X.admits]; show ¬ N * 4 > 536870912; omega
  have b3 : ¬ K > e.platform.arrayLengthLimit := by rw [Launch.admits_arrayLengthLimit X.admits]; omega
  have b4 : ¬ K * componentBytes .int > e.platform.maxHeapBytes := by rw [Launch.admits_maxHeapBytes X.admits]; show ¬ K * 4 > 536870912; omega
  jvm_step X.here [h1, h2, hd]
  simp only [multianewarray.sem, wp_bind', W.resolveClassAt_links (State.method?_setTop (F0 m pc ls (.int (iI (K : Int)) :: .int (iI (N : Int)) :: st)) X.here.top) hg1]
  rw [W.popN, if_neg (by decide)]
  refine ⟨F0 m pc ls (.int (iI (K : Int)) :: .int (iI (N : Int)) :: st), State.topJava?_setTop' (s := T.setVm vm1) _ X.here.top, [.int (iI (N : Int)), .int (iI (K : Int))], st, rfl, rfl, ?_⟩
  simp only [List.mapM_cons, List.mapM_nil, wp_bind', wp_pure']
  refine gd_wp (kA := kA1) (kI := kI1) (cI := G0.2.2.1 0) (cc := cI) hkA1 hkindA1 hkI1 hkindI1 hn0 hk0 (by rw [hNc]; exact b1) (by rw [hNc]; exact b2) (by rw [hKc]; exact b3) (by rw [hKc]; exact b4) (by rw [hNc]; show T.heap.size + 1 + _ ≤ _; omega) (by rw [hNc, hKc]; show T.slotsUsed + _ + _ ≤ _; omega) (fun d' acts' => ?_)
  rw [hNc, hKc]
  have eS : ((T.setTop (F0 m pc ls (.int (iI (K : Int)) :: .int (iI (N : Int)) :: st))).setVm vm1).setTop { F0 m pc ls (.int (iI (K : Int)) :: .int (iI (N : Int)) :: st) with stack := st } = (T.setVm vm1).setTop { F0 m pc ls (.int (iI (K : Int)) :: .int (iI (N : Int)) :: st) with stack := st } := by
    show ((T.setVm vm1).setTop _).setTop _ = _
    rw [State.setTop_setTop]
  rw [eS, gd_top]
  simp only [wp_bind', W.mark, W.pushRef, State.topJava?_setTop' _ XF.here.top, Option.some.injEq, exists_eq_left', State.setTop_setTop, State.heap_setTop]
  intro acts
  simp [jvm, XF.here.top]
  rw [← hT] at s1
  exact s1
