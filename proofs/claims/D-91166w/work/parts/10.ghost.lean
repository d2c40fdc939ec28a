/-! THE GHOST HEAP: one map of all new cells, each with a label; contracts speak of it alone -/
set_option maxRecDepth 100000
abbrev gL : Type := Nat × Nat
abbrev gC : Type := gL × va_E
abbrev gH : Type := Nat → Option gC
/-- classes and slots; the first new address; the array classes; ArrayList's empty array; the mirror of Object[] -/
abbrev gG : Type := va_G × Nat × (Nat → ClassId) × Nat × Nat
def Cl : List vw_C := [(RX0, TX0, 19), (RX2, TX2, 12), (RX4, TX4, 3), (RX3, TX3, 2), (RJ2, TJ2, 3), (RX1, TX1, 37)]
def gT (G : gG) : List (ClassId × FieldType) := [(G.2.2.1 0, .int), (G.2.2.1 1, .boolean), (G.2.2.1 2, .object "java/lang/Object"), (G.2.2.1 3, .array .int)]
def gA (G : gG) : Nat → Prop := fun q => G.2.1 ≤ q
def nwk : Cond → Bool
  | .fieldLinkNest _ _ _ _ _ _ => true
  | .methodLinkNest _ _ _ _ => true
  | .castable _ _ => true
  | _ => false
def gN (U : State) : Prop := ∀ w ∈ lw_tbl, nwk w = true → va_Nw w U
theorem gN.warm {s U : State} (hW : s.WarmedH U.vm) (h : gN s) : gN U := by
  intro w hw hk
  have hz := h w hw hk
  cases w <;> first | exact va_Nw.warmF hW hz | exact va_Nw.warmM hW hz | exact va_Nw.warmC hW hz | exact absurd hk (by simp [nwk])
theorem gN.same {u U : State} (e : u.vm = U.vm) (h : gN u) : gN U := by
  intro w hw hk
  refine va_Nw.same ?_ e (h w hw hk)
  cases w <;> first | rfl | exact absurd hk (by simp [nwk])
/-- an array of int arrays has the int arrays' class as its component -/
def GK (G : gG) (U : State) : Prop := ∃ kA : Class, U.vm.classes[G.2.2.1 3]? = some kA ∧ kA.kind = .array (G.2.2.1 0) (.array .int)
theorem GK.moved {G : gG} {u U : State} (hvm : u.vm.Alike U.vm) (h : GK G u) : GK G U := by
  obtain ⟨k, h1, h2⟩ := h
  obtain ⟨k', hk', he⟩ := hvm.2.2 _ _ h1
  exact ⟨k', hk', by rw [he]; exact h2⟩
def KK (G : gG) (U : State) (H : Heap) : Prop :=
  va_K G.1 Cl (gT G) U ∧ gN U ∧ va_Z "java/util/ArrayList" "DEFAULTCAPACITY_EMPTY_ELEMENTDATA" "[Ljava/lang/Object;" (.ref G.2.2.2.1) (gA G) U H ∧ va_T (.object "java/lang/Object") G.2.2.2.1 0 (fun _ => .null) (gA G) U H ∧ va_Mi "[Ljava/lang/Object;" G.2.2.2.2 U ∧ va_Dc U ∧ va_AO "java/lang/Object" U ∧ GK G U
theorem KK.kept {G : gG} {U : State} {H H1 : Heap} (h : KK G U H) (hq : ∀ a : Nat, a < H.size → ¬ gA G a → H1[a]? = H[a]?) : KK G U H1 :=
  ⟨h.1, h.2.1, h.2.2.1.kept hq, h.2.2.2.1.kept hq, h.2.2.2.2⟩
theorem KK.warm {G : gG} {s U : State} {H : Heap} (hW : s.WarmedH U.vm) (h : KK G s H) : KK G U H :=
  ⟨h.1.moved hW.alike, h.2.1.warm hW, h.2.2.1.moved hW.alike, h.2.2.2.1.moved hW.alike, h.2.2.2.2.1.moved hW.alike, h.2.2.2.2.2.1.moved hW.alike, h.2.2.2.2.2.2.1.moved hW.alike, h.2.2.2.2.2.2.2.moved hW.alike⟩
theorem KK.same {G : gG} {s U : State} {H : Heap} (e : s.vm = U.vm) (h : KK G s H) : KK G U H := by
  have al : s.vm.Alike U.vm := by rw [← e]; exact Vm.Alike.refl _
  exact ⟨h.1.moved al, h.2.1.same e, h.2.2.1.moved al, h.2.2.2.1.moved al, h.2.2.2.2.1.moved al, h.2.2.2.2.2.1.moved al, h.2.2.2.2.2.2.1.moved al, h.2.2.2.2.2.2.2.moved al⟩
def HM (G : gG) (M : gH) (H : Heap) : Prop := ∀ (a : Nat) (q : gC), M a = some q → va_at G.1 Cl (a, q.2) H ∧ G.2.1 ≤ a
def Wd (G : gG) (M : gH) (U : State) : Prop := HM G M U.heap ∧ KK G U U.heap ∧ G.2.1 ≤ U.heap.size
theorem Wd.calling {G : gG} {M : gH} {U : State} (g : JFrame) (mk : MethodId) (a : Array Value) (h : Wd G M U) : Wd G M (U.calling g mk a) :=
  ⟨h.1, KK.same (s := U) (U := U.calling g mk a) rfl h.2.1, h.2.2⟩
def gQ (G : gG) (Post : Option Value → gH → Prop) : Array Value → State → Outcome → State → Prop := fun _ st oc t => (∃ (v : Option Value) (M : gH), oc = .returned v ∧ Post v M ∧ Wd G M t) ∧ va_F (gA G) st t
abbrev GMet (l : Launch) (y : MethodName) (ws : List Cond) (rm : Room) (G : gG) (av : List Value) (M : gH) (Post : Option Value → gH → Prop) (mc ms : Nat) : Prop := Met l y ws rm (va_Pc av (Wd G M)) (gQ G Post) mc ms (gA G)
abbrev gX : Type := Program × Launch × Env × Room × State × MethodId × Array Value × List Frame × Method × Code × gG × Nat
def GW : gX → (State → Prop) → gH → Nat → Nat → Nat → List (Nat × Value) → List Value → Prop
  | (p, l, e, R, s, m, args, below, meth, c, G, nL), Q, M, k, n, pc, lv, st => ∀ (H : Heap) (locs : List Loc) (ls : Array Slot), HM G M H → va_S (gA G) s.heap H locs → lv_has ls nL lv → W p l e R s m args below meth c H locs k n Q (F0 m pc ls st)
def GX : gX → Launch → gG → MethodName → ByteArray → Room → Nat → Option FieldType → Prop
  | (p, l, e, R, s, m, args, below, meth, c, G, nL), l', G', y, cc, rm, nl, ret => l = l' ∧ G = G' ∧ nL = nl ∧ R = rm ∧ p.tables.exec = Jvm.exec ∧ c.code = cc ∧ c.maxLocals = nL ∧ s.vm.findClass y.cls = some m.cls ∧ meth.name = y.name ∧ (∀ w ∈ lw_all, w.before args s = true) ∧ meth.locks = false ∧ meth.sig.returnType = ret ∧ KK G s s.heap ∧ G.2.1 ≤ s.heap.size
def gQx : gX → (Option Value → gH → Prop) → Nat → Nat → State → Prop
  | (p, l, e, R, s, m, args, below, meth, c, G, nL), Post, mc, ms => MQ below (gQ G Post) args s mc ms (gA G)
/-! the map as a list, for the kit's rows -/
def up (M : gH) (a : Nat) (q : gC) : gH := fun b => if b = a then some q else M b
theorem up_s {M : gH} {a : Nat} {q : gC} : up M a q a = some q := by simp [up]
theorem up_n {M : gH} {a b : Nat} {q : gC} (h : b ≠ a) : up M a q b = M b := by simp [up, h]
theorem up_l {M : gH} {a b : Nat} {q q1 q2 : gC} (h1 : M a = some q1) (h2 : M b = some q2) (h : q2.1 ≠ q1.1) : up M a q b = some q2 := by
  rw [up_n, h2]
  intro e
  subst e
  rw [h1] at h2
  cases h2
  exact h rfl
theorem up_f {M : gH} {a b : Nat} {q q2 : gC} (h1 : M a = none) (h2 : M b = some q2) : up M a q b = some q2 := by
  rw [up_n, h2]
  intro e
  subst e
  rw [h1] at h2
  cases h2
def lst (M : gH) (n : Nat) : va_W := (List.range n).filterMap (fun a => (M a).map (fun q => (a, q.2)))
theorem lst_mem {M : gH} {n a : Nat} {q : gC} (h : a < n) (hm : M a = some q) : ∃ i : Nat, (lst M n)[i]? = some (a, q.2) := by
  refine List.getElem?_of_mem (List.mem_filterMap.mpr ⟨a, List.mem_range.mpr h, ?_⟩)
  rw [hm]
  rfl
theorem lst_of {M : gH} {n i : Nat} {p : Nat × va_E} (h : (lst M n)[i]? = some p) : p.1 < n ∧ ∃ q : gC, M p.1 = some q ∧ q.2 = p.2 := by
  obtain ⟨a, h1, h2⟩ := List.mem_filterMap.mp (List.mem_of_getElem? h)
  cases hm : M a with
  | none => rw [hm] at h2; cases h2
  | some q =>
    rw [hm] at h2
    cases h2
    exact ⟨List.mem_range.mp h1, q, hm, rfl⟩
theorem lst_pw (M : gH) (n : Nat) : (lst M n).Pairwise (fun p q => p.1 < q.1) := by
  refine List.Pairwise.filterMap _ (R := fun a b => a < b) ?_ List.pairwise_lt_range
  intro a b hab p hp q hq
  cases ha : M a with
  | none => rw [ha] at hp; cases hp
  | some x =>
    cases hb : M b with
    | none => rw [hb] at hq; cases hq
    | some y =>
      rw [ha] at hp
      rw [hb] at hq
      cases hp
      cases hq
      exact hab
theorem lst_inj {M : gH} {n i j : Nat} {p q : Nat × va_E} (hi : (lst M n)[i]? = some p) (hj : (lst M n)[j]? = some q) (e : p.1 = q.1) : i = j := by
  obtain ⟨li, ei⟩ := List.getElem?_eq_some_iff.mp hi
  obtain ⟨lj, ej⟩ := List.getElem?_eq_some_iff.mp hj
  have hp := List.pairwise_iff_getElem.mp (lst_pw M n)
  rcases Nat.lt_trichotomy i j with h | h | h
  · have := hp i j li lj h
    rw [ei, ej] at this
    omega
  · exact h
  · have := hp j i lj li h
    rw [ei, ej] at this
    omega
theorem HM.lt {G : gG} {M : gH} {H : Heap} (h : HM G M H) {a : Nat} {q : gC} (hm : M a = some q) : a < H.size := (h a q hm).1.lt
theorem HM.P {G : gG} {M : gH} {H : Heap} (h : HM G M H) : va_P G.1 Cl (lst M H.size) H := by
  intro k p hk
  obtain ⟨-, q, h1, h2⟩ := lst_of hk
  have := (h p.1 q h1).1
  rw [h2] at this
  exact this
theorem HM.D {G : gG} {M : gH} {H : Heap} (h : HM G M H) : va_D (gA G) (lst M H.size) := by
  refine ⟨fun i j p q hi hj e => lst_inj hi hj e, fun k p hk => ?_⟩
  obtain ⟨-, q, h1, -⟩ := lst_of hk
  exact (h p.1 q h1).2
theorem HM.set {G : gG} {M : gH} {H H1 : Heap} (h : HM G M H) {i a : Nat} {e0 e : va_E} {lab : gL} (hi : (lst M H.size)[i]? = some (a, e0)) (hP : va_P G.1 Cl ((lst M H.size).set i (a, e)) H1) : HM G (up M a (lab, e)) H1 := by
  have hl := (List.getElem?_eq_some_iff.mp hi).1
  intro b q hb
  by_cases hba : b = a
  · subst hba
    rw [up_s] at hb
    cases hb
    refine ⟨hP i _ (List.getElem?_set_self hl), ?_⟩
    obtain ⟨-, q0, h1, -⟩ := lst_of hi
    exact (h b q0 h1).2
  · rw [up_n hba] at hb
    obtain ⟨j, hj⟩ := lst_mem (h.lt hb) hb
    have hij : i ≠ j := by
      intro e
      subst e
      rw [hi] at hj
      cases hj
      exact hba rfl
    exact ⟨hP j _ (by rw [List.getElem?_set_ne hij]; exact hj), (h b q hb).2⟩
theorem HM.push {G : gG} {M : gH} {H H1 : Heap} (h : HM G M H) {a : Nat} {e : va_E} {lab : gL} (hP : va_P G.1 Cl (lst M H.size ++ [(a, e)]) H1) (hD : va_D (gA G) (lst M H.size ++ [(a, e)])) : HM G (up M a (lab, e)) H1 ∧ M a = none ∧ G.2.1 ≤ a := by
  have hlast : (lst M H.size ++ [(a, e)])[(lst M H.size).length]? = some (a, e) := by simp
  have hold : ∀ (b : Nat) (q : gC), M b = some q → ∃ j : Nat, j < (lst M H.size).length ∧ (lst M H.size ++ [(a, e)])[j]? = some (b, q.2) := by
    intro b q hb
    obtain ⟨j, hj⟩ := lst_mem (h.lt hb) hb
    have hl := (List.getElem?_eq_some_iff.mp hj).1
    exact ⟨j, hl, by rw [List.getElem?_append_left hl]; exact hj⟩
  refine ⟨?_, ?_, hD.2 _ _ hlast⟩
  · intro b q hb
    by_cases hba : b = a
    · subst hba
      rw [up_s] at hb
      cases hb
      exact ⟨hP _ _ hlast, hD.2 _ _ hlast⟩
    · rw [up_n hba] at hb
      obtain ⟨j, -, hj⟩ := hold b q hb
      exact ⟨hP _ _ hj, (h b q hb).2⟩
  · cases hm : M a with
    | none => rfl
    | some q =>
      obtain ⟨j, h1, h2⟩ := hold a q hm
      have := hD.1 _ _ _ _ h2 hlast rfl
      omega
