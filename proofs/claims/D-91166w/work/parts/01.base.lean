-- ===== PART A: goes FIRST, ahead of the names: the tables' words, and 'selects' of the private methods out of them =====
/-- a private method of a class that the tables say can be made, by its rows of tables_1 -/
def lw_okq (q : MethodName × Nat) : Prop := (q.1.cls ≠ "java/lang/invoke/MethodHandle" ∧ q.1.cls ≠ "java/lang/invoke/VarHandle") ∧ Cond.instantiable q.1.cls q.2 ∈ tables_1 ∧ Cond.privateMethod q.1 ∈ tables_1 ∧ Cond.instanceMethod q.1 ∈ tables_1
set_option maxRecDepth 100000
theorem lw_t1 {w : Cond} (h : w ∈ tables_1_1) : w ∈ tables_1 := List.mem_append_left _ h
theorem lw_t2 {w : Cond} (h : w ∈ tables_1_2) : w ∈ tables_1 := List.mem_append_right _ (List.mem_append_left _ h)
theorem lw_t3 {w : Cond} (h : w ∈ tables_1_3) : w ∈ tables_1 := List.mem_append_right _ (List.mem_append_right _ h)
theorem lw_p0 : lw_okq (⟨"CryOrder", "isSilent", "(I)Z"⟩, 19) := ⟨⟨by decide +kernel, by decide +kernel⟩, lw_t1 (List.mem_of_getElem? (i := 16) rfl), lw_t1 (List.mem_of_getElem? (i := 162) rfl), lw_t1 (List.mem_of_getElem? (i := 163) rfl)⟩
theorem lw_p1 : lw_okq (⟨"CryOrder", "isOverCap", "(I)Z"⟩, 19) := ⟨⟨by decide +kernel, by decide +kernel⟩, lw_t1 (List.mem_of_getElem? (i := 16) rfl), lw_t1 (List.mem_of_getElem? (i := 167) rfl), lw_t1 (List.mem_of_getElem? (i := 168) rfl)⟩
theorem lw_p2 : lw_okq (⟨"java/util/ArrayList", "add", "(Ljava/lang/Object;[Ljava/lang/Object;I)V"⟩, 3) := ⟨⟨by decide +kernel, by decide +kernel⟩, lw_t1 (List.mem_of_getElem? (i := 24) rfl), lw_t1 (List.mem_of_getElem? (i := 231) rfl), lw_t1 (List.mem_of_getElem? (i := 232) rfl)⟩
theorem lw_p3 : lw_okq (⟨"java/util/ArrayList", "grow", "()[Ljava/lang/Object;"⟩, 3) := ⟨⟨by decide +kernel, by decide +kernel⟩, lw_t1 (List.mem_of_getElem? (i := 24) rfl), lw_t1 (List.mem_of_getElem? (i := 235) rfl), lw_t1 (List.mem_of_getElem? (i := 236) rfl)⟩
theorem lw_p4 : lw_okq (⟨"java/util/ArrayList", "grow", "(I)[Ljava/lang/Object;"⟩, 3) := ⟨⟨by decide +kernel, by decide +kernel⟩, lw_t1 (List.mem_of_getElem? (i := 24) rfl), lw_t1 (List.mem_of_getElem? (i := 239) rfl), lw_t2 (List.mem_of_getElem? (i := 0) rfl)⟩
theorem lw_p5 : lw_okq (⟨"CryOrder", "at", "(I)LCryOrder$Alarm;"⟩, 19) := ⟨⟨by decide +kernel, by decide +kernel⟩, lw_t1 (List.mem_of_getElem? (i := 16) rfl), lw_t2 (List.mem_of_getElem? (i := 44) rfl), lw_t2 (List.mem_of_getElem? (i := 45) rfl)⟩
theorem lw_p6 : lw_okq (⟨"CryOrder", "countAt", "(III)I"⟩, 19) := ⟨⟨by decide +kernel, by decide +kernel⟩, lw_t1 (List.mem_of_getElem? (i := 16) rfl), lw_t2 (List.mem_of_getElem? (i := 67) rfl), lw_t2 (List.mem_of_getElem? (i := 68) rfl)⟩
theorem lw_p7 : lw_okq (⟨"CryOrder", "depthOf", "(LCryOrder$Alarm;)I"⟩, 19) := ⟨⟨by decide +kernel, by decide +kernel⟩, lw_t1 (List.mem_of_getElem? (i := 16) rfl), lw_t2 (List.mem_of_getElem? (i := 79) rfl), lw_t2 (List.mem_of_getElem? (i := 80) rfl)⟩
theorem lw_p8 : lw_okq (⟨"CryOrder", "tieOf", "(II)I"⟩, 19) := ⟨⟨by decide +kernel, by decide +kernel⟩, lw_t1 (List.mem_of_getElem? (i := 16) rfl), lw_t2 (List.mem_of_getElem? (i := 90) rfl), lw_t2 (List.mem_of_getElem? (i := 91) rfl)⟩
theorem lw_p9 : lw_okq (⟨"CryOrder", "scoreOf", "(LCryOrder$Alarm;)I"⟩, 19) := ⟨⟨by decide +kernel, by decide +kernel⟩, lw_t1 (List.mem_of_getElem? (i := 16) rfl), lw_t2 (List.mem_of_getElem? (i := 98) rfl), lw_t2 (List.mem_of_getElem? (i := 99) rfl)⟩
theorem lw_p10 : lw_okq (⟨"CryOrder", "makes", "()V"⟩, 19) := ⟨⟨by decide +kernel, by decide +kernel⟩, lw_t1 (List.mem_of_getElem? (i := 16) rfl), lw_t2 (List.mem_of_getElem? (i := 102) rfl), lw_t2 (List.mem_of_getElem? (i := 103) rfl)⟩
theorem lw_p11 : lw_okq (⟨"CryOrder", "isTied", "(LCryOrder$Alarm;LCryOrder$Alarm;)Z"⟩, 19) := ⟨⟨by decide +kernel, by decide +kernel⟩, lw_t1 (List.mem_of_getElem? (i := 16) rfl), lw_t2 (List.mem_of_getElem? (i := 110) rfl), lw_t2 (List.mem_of_getElem? (i := 111) rfl)⟩
theorem lw_p12 : lw_okq (⟨"CryOrder", "gather", "(I)LCryOrder$Case;"⟩, 19) := ⟨⟨by decide +kernel, by decide +kernel⟩, lw_t1 (List.mem_of_getElem? (i := 16) rfl), lw_t2 (List.mem_of_getElem? (i := 118) rfl), lw_t2 (List.mem_of_getElem? (i := 119) rfl)⟩
theorem lw_p13 : lw_okq (⟨"CryOrder", "find", "(I)LCryOrder$Case;"⟩, 19) := ⟨⟨by decide +kernel, by decide +kernel⟩, lw_t1 (List.mem_of_getElem? (i := 16) rfl), lw_t2 (List.mem_of_getElem? (i := 160) rfl), lw_t2 (List.mem_of_getElem? (i := 161) rfl)⟩
theorem lw_p14 : lw_okq (⟨"CryOrder", "plans", "(I)V"⟩, 19) := ⟨⟨by decide +kernel, by decide +kernel⟩, lw_t1 (List.mem_of_getElem? (i := 16) rfl), lw_t2 (List.mem_of_getElem? (i := 177) rfl), lw_t2 (List.mem_of_getElem? (i := 178) rfl)⟩
theorem lw_p15 : lw_okq (⟨"java/util/ArrayList", "rangeCheckForAdd", "(I)V"⟩, 3) := ⟨⟨by decide +kernel, by decide +kernel⟩, lw_t1 (List.mem_of_getElem? (i := 24) rfl), lw_t2 (List.mem_of_getElem? (i := 185) rfl), lw_t2 (List.mem_of_getElem? (i := 186) rfl)⟩
def lw_privs_1 : List (MethodName × Nat) := [(⟨"CryOrder", "isSilent", "(I)Z"⟩, 19), (⟨"CryOrder", "isOverCap", "(I)Z"⟩, 19), (⟨"java/util/ArrayList", "add", "(Ljava/lang/Object;[Ljava/lang/Object;I)V"⟩, 3), (⟨"java/util/ArrayList", "grow", "()[Ljava/lang/Object;"⟩, 3), (⟨"java/util/ArrayList", "grow", "(I)[Ljava/lang/Object;"⟩, 3), (⟨"CryOrder", "at", "(I)LCryOrder$Alarm;"⟩, 19), (⟨"CryOrder", "countAt", "(III)I"⟩, 19), (⟨"CryOrder", "depthOf", "(LCryOrder$Alarm;)I"⟩, 19), (⟨"CryOrder", "tieOf", "(II)I"⟩, 19), (⟨"CryOrder", "scoreOf", "(LCryOrder$Alarm;)I"⟩, 19), (⟨"CryOrder", "makes", "()V"⟩, 19), (⟨"CryOrder", "isTied", "(LCryOrder$Alarm;LCryOrder$Alarm;)Z"⟩, 19), (⟨"CryOrder", "gather", "(I)LCryOrder$Case;"⟩, 19), (⟨"CryOrder", "find", "(I)LCryOrder$Case;"⟩, 19), (⟨"CryOrder", "plans", "(I)V"⟩, 19), (⟨"java/util/ArrayList", "rangeCheckForAdd", "(I)V"⟩, 3)]
theorem lw_r1 : ∀ q ∈ lw_privs_1, lw_okq q := List.forall_mem_cons.mpr ⟨lw_p0, List.forall_mem_cons.mpr ⟨lw_p1, List.forall_mem_cons.mpr ⟨lw_p2, List.forall_mem_cons.mpr ⟨lw_p3, List.forall_mem_cons.mpr ⟨lw_p4, List.forall_mem_cons.mpr ⟨lw_p5, List.forall_mem_cons.mpr ⟨lw_p6, List.forall_mem_cons.mpr ⟨lw_p7, List.forall_mem_cons.mpr ⟨lw_p8, List.forall_mem_cons.mpr ⟨lw_p9, List.forall_mem_cons.mpr ⟨lw_p10, List.forall_mem_cons.mpr ⟨lw_p11, List.forall_mem_cons.mpr ⟨lw_p12, List.forall_mem_cons.mpr ⟨lw_p13, List.forall_mem_cons.mpr ⟨lw_p14, List.forall_mem_cons.mpr ⟨lw_p15, fun _ h => absurd h List.not_mem_nil⟩⟩⟩⟩⟩⟩⟩⟩⟩⟩⟩⟩⟩⟩⟩⟩
theorem lw_p16 : lw_okq (⟨"CryOrderModel", "isLive", "(I)Z"⟩, 37) := ⟨⟨by decide +kernel, by decide +kernel⟩, lw_t2 (List.mem_of_getElem? (i := 202) rfl), lw_t3 (List.mem_of_getElem? (i := 91) rfl), lw_t3 (List.mem_of_getElem? (i := 92) rfl)⟩
theorem lw_p17 : lw_okq (⟨"CryOrderModel", "isAlarm", "(I)Z"⟩, 37) := ⟨⟨by decide +kernel, by decide +kernel⟩, lw_t2 (List.mem_of_getElem? (i := 202) rfl), lw_t3 (List.mem_of_getElem? (i := 110) rfl), lw_t3 (List.mem_of_getElem? (i := 111) rfl)⟩
theorem lw_p18 : lw_okq (⟨"CryOrderModel", "tieOf", "(II)I"⟩, 37) := ⟨⟨by decide +kernel, by decide +kernel⟩, lw_t2 (List.mem_of_getElem? (i := 202) rfl), lw_t3 (List.mem_of_getElem? (i := 121) rfl), lw_t3 (List.mem_of_getElem? (i := 122) rfl)⟩
theorem lw_p19 : lw_okq (⟨"CryOrderModel", "counts", "(II)V"⟩, 37) := ⟨⟨by decide +kernel, by decide +kernel⟩, lw_t2 (List.mem_of_getElem? (i := 202) rfl), lw_t3 (List.mem_of_getElem? (i := 129) rfl), lw_t3 (List.mem_of_getElem? (i := 130) rfl)⟩
theorem lw_p20 : lw_okq (⟨"CryOrderModel", "depth", "(I)I"⟩, 37) := ⟨⟨by decide +kernel, by decide +kernel⟩, lw_t2 (List.mem_of_getElem? (i := 202) rfl), lw_t3 (List.mem_of_getElem? (i := 137) rfl), lw_t3 (List.mem_of_getElem? (i := 138) rfl)⟩
theorem lw_p21 : lw_okq (⟨"CryOrderModel", "score", "(I)I"⟩, 37) := ⟨⟨by decide +kernel, by decide +kernel⟩, lw_t2 (List.mem_of_getElem? (i := 202) rfl), lw_t3 (List.mem_of_getElem? (i := 145) rfl), lw_t3 (List.mem_of_getElem? (i := 146) rfl)⟩
theorem lw_p22 : lw_okq (⟨"CryOrderModel", "joins", "()V"⟩, 37) := ⟨⟨by decide +kernel, by decide +kernel⟩, lw_t2 (List.mem_of_getElem? (i := 202) rfl), lw_t3 (List.mem_of_getElem? (i := 149) rfl), lw_t3 (List.mem_of_getElem? (i := 150) rfl)⟩
theorem lw_p23 : lw_okq (⟨"CryOrderModel", "hangs", "(II)Z"⟩, 37) := ⟨⟨by decide +kernel, by decide +kernel⟩, lw_t2 (List.mem_of_getElem? (i := 202) rfl), lw_t3 (List.mem_of_getElem? (i := 153) rfl), lw_t3 (List.mem_of_getElem? (i := 154) rfl)⟩
theorem lw_p24 : lw_okq (⟨"CryOrderModel", "scoreOf", "(I)I"⟩, 37) := ⟨⟨by decide +kernel, by decide +kernel⟩, lw_t2 (List.mem_of_getElem? (i := 202) rfl), lw_t3 (List.mem_of_getElem? (i := 160) rfl), lw_t3 (List.mem_of_getElem? (i := 161) rfl)⟩
theorem lw_p25 : lw_okq (⟨"CryOrderModel", "sizeOf", "(I)I"⟩, 37) := ⟨⟨by decide +kernel, by decide +kernel⟩, lw_t2 (List.mem_of_getElem? (i := 202) rfl), lw_t3 (List.mem_of_getElem? (i := 172) rfl), lw_t3 (List.mem_of_getElem? (i := 173) rfl)⟩
theorem lw_p26 : lw_okq (⟨"CryOrderModel", "minutesOf", "(I)I"⟩, 37) := ⟨⟨by decide +kernel, by decide +kernel⟩, lw_t2 (List.mem_of_getElem? (i := 202) rfl), lw_t3 (List.mem_of_getElem? (i := 176) rfl), lw_t3 (List.mem_of_getElem? (i := 177) rfl)⟩
theorem lw_p27 : lw_okq (⟨"CryOrderModel", "isLittleKnown", "(I)Z"⟩, 37) := ⟨⟨by decide +kernel, by decide +kernel⟩, lw_t2 (List.mem_of_getElem? (i := 202) rfl), lw_t3 (List.mem_of_getElem? (i := 180) rfl), lw_t3 (List.mem_of_getElem? (i := 181) rfl)⟩
theorem lw_p28 : lw_okq (⟨"CryOrderModel", "plans", "(I)V"⟩, 37) := ⟨⟨by decide +kernel, by decide +kernel⟩, lw_t2 (List.mem_of_getElem? (i := 202) rfl), lw_t3 (List.mem_of_getElem? (i := 195) rfl), lw_t3 (List.mem_of_getElem? (i := 196) rfl)⟩
theorem lw_p29 : lw_okq (⟨"CryOrderModel", "isTaken", "(I)Z"⟩, 37) := ⟨⟨by decide +kernel, by decide +kernel⟩, lw_t2 (List.mem_of_getElem? (i := 202) rfl), lw_t3 (List.mem_of_getElem? (i := 199) rfl), lw_t3 (List.mem_of_getElem? (i := 200) rfl)⟩
def lw_privs_2 : List (MethodName × Nat) := [(⟨"CryOrderModel", "isLive", "(I)Z"⟩, 37), (⟨"CryOrderModel", "isAlarm", "(I)Z"⟩, 37), (⟨"CryOrderModel", "tieOf", "(II)I"⟩, 37), (⟨"CryOrderModel", "counts", "(II)V"⟩, 37), (⟨"CryOrderModel", "depth", "(I)I"⟩, 37), (⟨"CryOrderModel", "score", "(I)I"⟩, 37), (⟨"CryOrderModel", "joins", "()V"⟩, 37), (⟨"CryOrderModel", "hangs", "(II)Z"⟩, 37), (⟨"CryOrderModel", "scoreOf", "(I)I"⟩, 37), (⟨"CryOrderModel", "sizeOf", "(I)I"⟩, 37), (⟨"CryOrderModel", "minutesOf", "(I)I"⟩, 37), (⟨"CryOrderModel", "isLittleKnown", "(I)Z"⟩, 37), (⟨"CryOrderModel", "plans", "(I)V"⟩, 37), (⟨"CryOrderModel", "isTaken", "(I)Z"⟩, 37)]
theorem lw_r2 : ∀ q ∈ lw_privs_2, lw_okq q := List.forall_mem_cons.mpr ⟨lw_p16, List.forall_mem_cons.mpr ⟨lw_p17, List.forall_mem_cons.mpr ⟨lw_p18, List.forall_mem_cons.mpr ⟨lw_p19, List.forall_mem_cons.mpr ⟨lw_p20, List.forall_mem_cons.mpr ⟨lw_p21, List.forall_mem_cons.mpr ⟨lw_p22, List.forall_mem_cons.mpr ⟨lw_p23, List.forall_mem_cons.mpr ⟨lw_p24, List.forall_mem_cons.mpr ⟨lw_p25, List.forall_mem_cons.mpr ⟨lw_p26, List.forall_mem_cons.mpr ⟨lw_p27, List.forall_mem_cons.mpr ⟨lw_p28, List.forall_mem_cons.mpr ⟨lw_p29, fun _ h => absurd h List.not_mem_nil⟩⟩⟩⟩⟩⟩⟩⟩⟩⟩⟩⟩⟩⟩
def lw_privs : List (MethodName × Nat) := lw_privs_1 ++ (lw_privs_2)
def lw_tbl : List Cond := k2_sels lw_privs ++ tables_1
theorem lw_privs_ok : ∀ q ∈ lw_privs, lw_okq q := by
  show ∀ q ∈ lw_privs_1 ++ (lw_privs_2), lw_okq q
  exact List.forall_mem_append.mpr ⟨lw_r1, lw_r2⟩
-- ===== ONE list of words for every method: the tables' words that hold all through a run =====
def lw_all : List Cond := lw_tbl.filter goodWord
/-- a word of the tables by its place: claim/WORDS.tsv -/
theorem lw_w {w : Cond} (i : Nat) (h : lw_tbl[i]? = some w) (g : goodWord w = true) : w ∈ lw_all := List.mem_filter.mpr ⟨List.mem_of_getElem? h, g⟩
theorem lw_all_tbl {w : Cond} (h : w ∈ lw_all) : w ∈ lw_tbl := (List.mem_filter.mp h).1
theorem lw_self : GoodIn lw_all lw_all := fun w h => ⟨h, good_of_word (List.mem_filter.mp h).2⟩
/-- a class's field words, by their places -/
theorem lw_in (ws : List Cond) (ps : List Nat) (hp : ws = ps.filterMap (fun i => lw_tbl[i]?)) (hg : ws.all goodWord = true) : ∀ w ∈ ws, w ∈ lw_all := by
  intro w h
  have h1 := List.all_eq_true.mp hg w h
  rw [hp] at h
  obtain ⟨i, -, hi⟩ := List.mem_filterMap.mp h
  exact lw_w i hi h1
/-- the words of a contract for the method y with code b, L locals, answer r -/
abbrev ws_ (y : MethodName) (b : ByteArray) (L : Nat) (r : Option FieldType) : List Cond := Cond.code y b L r :: lw_all
theorem lw_meth {y : MethodName} {b : ByteArray} {L : Nat} {r : Option FieldType} (h : Cond.code y b L r ∈ lw_all) : GoodIn lw_all (ws_ y b L r) := by
  intro w hw
  rcases List.mem_cons.mp hw with e | e
  · rw [e]
    exact lw_self _ h
  · exact lw_self _ e
theorem lw_app {a c : List Cond} (ha : ∀ w ∈ a, w ∈ lw_all) (hc : GoodIn lw_all c) : GoodIn lw_all (a ++ c) := by
  intro w hw
  rcases List.mem_append.mp hw with e | e
  · exact lw_self w (ha w e)
  · exact hc w e
/-- what a call through an object asks: cwV n hts (lw_V ..) -/
theorem lw_V {own : String} {idx : Nat} {C : String} {y : MethodName} {b : ByteArray} {L : Nat} {r : Option FieldType} (h1 : Cond.methodLink own idx y ∈ lw_all) (h2 : Cond.instanceMethod y ∈ lw_all) (h3 : Cond.selects C y y ∈ lw_all) (h4 : Cond.initialized C ∈ lw_all) (h5 : Cond.code y b L r ∈ lw_all) : GoodIn lw_all (wsV own idx C y (ws_ y b L r)) := by
  refine lw_app ?_ (lw_meth h5)
  intro w hw
  simp only [List.mem_cons, List.not_mem_nil, or_false] at hw
  rcases hw with e | e | e | e
  · rw [e]; exact h1
  · rw [e]; exact h2
  · rw [e]; exact h3
  · rw [e]; exact h4
/-- what a static call asks: va_cwS n hts (lw_S ..) -/
theorem lw_S {own : String} {idx : Nat} {y : MethodName} {b : ByteArray} {L : Nat} {r : Option FieldType} (h1 : Cond.methodLink own idx y ∈ lw_all) (h2 : Cond.static y ∈ lw_all) (h3 : Cond.initialized y.cls ∈ lw_all) (h4 : Cond.code y b L r ∈ lw_all) : GoodIn lw_all (va_wsS own idx y (ws_ y b L r)) := by
  refine lw_app ?_ (lw_meth h4)
  intro w hw
  simp only [List.mem_cons, List.not_mem_nil, or_false] at hw
  rcases hw with e | e | e
  · rw [e]; exact h1
  · rw [e]; exact h2
  · rw [e]; exact h3
/-- the words of a contract for a method WITH HANDLERS (hh: its table) -/
abbrev wsW_ (y : MethodName) (b : ByteArray) (L : Nat) (r : Option FieldType) (hh : List (Nat × Nat × Nat × Nat)) : List Cond := Cond.codeWith y b L r hh :: lw_all
theorem lw_methW {y : MethodName} {b : ByteArray} {L : Nat} {r : Option FieldType} {hh : List (Nat × Nat × Nat × Nat)} (h : Cond.codeWith y b L r hh ∈ lw_all) : GoodIn lw_all (wsW_ y b L r hh) := by
  intro w hw
  rcases List.mem_cons.mp hw with e | e
  · rw [e]
    exact lw_self _ h
  · exact lw_self _ e
/-- any list of words by their places (lw_in), good -/
theorem lw_good {ws : List Cond} (h : ∀ w ∈ ws, w ∈ lw_all) : GoodIn lw_all ws := fun w hw => lw_self w (h w hw)
/-- what a call of a method with handlers asks: vx_cwVW n hts (lw_VW ..), vx_cwSW n hts (lw_SW ..) -/
theorem lw_VW {own : String} {idx : Nat} {C : String} {y : MethodName} {b : ByteArray} {L : Nat} {r : Option FieldType} {hh : List (Nat × Nat × Nat × Nat)} (h1 : Cond.methodLink own idx y ∈ lw_all) (h2 : Cond.instanceMethod y ∈ lw_all) (h3 : Cond.selects C y y ∈ lw_all) (h4 : Cond.initialized C ∈ lw_all) (h5 : Cond.codeWith y b L r hh ∈ lw_all) : GoodIn lw_all (wsV own idx C y (wsW_ y b L r hh)) := by
  refine lw_app ?_ (lw_methW h5)
  intro w hw
  simp only [List.mem_cons, List.not_mem_nil, or_false] at hw
  rcases hw with e | e | e | e
  · rw [e]; exact h1
  · rw [e]; exact h2
  · rw [e]; exact h3
  · rw [e]; exact h4
theorem lw_SW {own : String} {idx : Nat} {y : MethodName} {b : ByteArray} {L : Nat} {r : Option FieldType} {hh : List (Nat × Nat × Nat × Nat)} (h1 : Cond.methodLink own idx y ∈ lw_all) (h2 : Cond.static y ∈ lw_all) (h3 : Cond.initialized y.cls ∈ lw_all) (h4 : Cond.codeWith y b L r hh ∈ lw_all) : GoodIn lw_all (va_wsS own idx y (wsW_ y b L r hh)) := by
  refine lw_app ?_ (lw_methW h4)
  intro w hw
  simp only [List.mem_cons, List.not_mem_nil, or_false] at hw
  rcases hw with e | e | e
  · rw [e]; exact h1
  · rw [e]; exact h2
  · rw [e]; exact h3
/-- a word by its place in its run of the tables -/
theorem lw_at {r : List Cond} (hr : ∀ w ∈ r, w ∈ lw_tbl) {w : Cond} (i : Nat) (h : r[i]? = some w) : w ∈ lw_tbl := hr w (List.mem_of_getElem? h)
theorem lw_g {w : Cond} (h : w ∈ lw_tbl) (g : goodWord w = true) : w ∈ lw_all := List.mem_filter.mpr ⟨h, g⟩
theorem lw_ms : ∀ w ∈ k2_sels lw_privs, w ∈ lw_tbl := fun w h => show w ∈ k2_sels lw_privs ++ tables_1 from List.mem_append_left _ h
theorem lw_m1 : ∀ w ∈ tables_1_1, w ∈ lw_tbl := fun w h => show w ∈ k2_sels lw_privs ++ tables_1 from List.mem_append_right (k2_sels lw_privs) (show w ∈ tables_1 from List.mem_append_left _ h)
theorem lw_m2 : ∀ w ∈ tables_1_2, w ∈ lw_tbl := fun w h => show w ∈ k2_sels lw_privs ++ tables_1 from List.mem_append_right (k2_sels lw_privs) (show w ∈ tables_1 from List.mem_append_right _ (List.mem_append_left _ h))
theorem lw_m3 : ∀ w ∈ tables_1_3, w ∈ lw_tbl := fun w h => show w ∈ k2_sels lw_privs ++ tables_1 from List.mem_append_right (k2_sels lw_privs) (show w ∈ tables_1 from List.mem_append_right _ (List.mem_append_right _ h))
theorem qs0 : (Cond.selects "CryOrder" ⟨"CryOrder", "isSilent", "(I)Z"⟩ ⟨"CryOrder", "isSilent", "(I)Z"⟩) ∈ lw_all := lw_g (lw_at lw_ms 0 rfl) rfl
theorem qs1 : (Cond.selects "CryOrder" ⟨"CryOrder", "isOverCap", "(I)Z"⟩ ⟨"CryOrder", "isOverCap", "(I)Z"⟩) ∈ lw_all := lw_g (lw_at lw_ms 1 rfl) rfl
theorem qs2 : (Cond.selects "java/util/ArrayList" ⟨"java/util/ArrayList", "add", "(Ljava/lang/Object;[Ljava/lang/Object;I)V"⟩ ⟨"java/util/ArrayList", "add", "(Ljava/lang/Object;[Ljava/lang/Object;I)V"⟩) ∈ lw_all := lw_g (lw_at lw_ms 2 rfl) rfl
theorem qs3 : (Cond.selects "java/util/ArrayList" ⟨"java/util/ArrayList", "grow", "()[Ljava/lang/Object;"⟩ ⟨"java/util/ArrayList", "grow", "()[Ljava/lang/Object;"⟩) ∈ lw_all := lw_g (lw_at lw_ms 3 rfl) rfl
theorem qs4 : (Cond.selects "java/util/ArrayList" ⟨"java/util/ArrayList", "grow", "(I)[Ljava/lang/Object;"⟩ ⟨"java/util/ArrayList", "grow", "(I)[Ljava/lang/Object;"⟩) ∈ lw_all := lw_g (lw_at lw_ms 4 rfl) rfl
theorem qs5 : (Cond.selects "CryOrder" ⟨"CryOrder", "at", "(I)LCryOrder$Alarm;"⟩ ⟨"CryOrder", "at", "(I)LCryOrder$Alarm;"⟩) ∈ lw_all := lw_g (lw_at lw_ms 5 rfl) rfl
theorem qs6 : (Cond.selects "CryOrder" ⟨"CryOrder", "countAt", "(III)I"⟩ ⟨"CryOrder", "countAt", "(III)I"⟩) ∈ lw_all := lw_g (lw_at lw_ms 6 rfl) rfl
theorem qs7 : (Cond.selects "CryOrder" ⟨"CryOrder", "depthOf", "(LCryOrder$Alarm;)I"⟩ ⟨"CryOrder", "depthOf", "(LCryOrder$Alarm;)I"⟩) ∈ lw_all := lw_g (lw_at lw_ms 7 rfl) rfl
theorem qs8 : (Cond.selects "CryOrder" ⟨"CryOrder", "tieOf", "(II)I"⟩ ⟨"CryOrder", "tieOf", "(II)I"⟩) ∈ lw_all := lw_g (lw_at lw_ms 8 rfl) rfl
theorem qs9 : (Cond.selects "CryOrder" ⟨"CryOrder", "scoreOf", "(LCryOrder$Alarm;)I"⟩ ⟨"CryOrder", "scoreOf", "(LCryOrder$Alarm;)I"⟩) ∈ lw_all := lw_g (lw_at lw_ms 9 rfl) rfl
theorem qs10 : (Cond.selects "CryOrder" ⟨"CryOrder", "makes", "()V"⟩ ⟨"CryOrder", "makes", "()V"⟩) ∈ lw_all := lw_g (lw_at lw_ms 10 rfl) rfl
theorem qs11 : (Cond.selects "CryOrder" ⟨"CryOrder", "isTied", "(LCryOrder$Alarm;LCryOrder$Alarm;)Z"⟩ ⟨"CryOrder", "isTied", "(LCryOrder$Alarm;LCryOrder$Alarm;)Z"⟩) ∈ lw_all := lw_g (lw_at lw_ms 11 rfl) rfl
theorem qs12 : (Cond.selects "CryOrder" ⟨"CryOrder", "gather", "(I)LCryOrder$Case;"⟩ ⟨"CryOrder", "gather", "(I)LCryOrder$Case;"⟩) ∈ lw_all := lw_g (lw_at lw_ms 12 rfl) rfl
theorem qs13 : (Cond.selects "CryOrder" ⟨"CryOrder", "find", "(I)LCryOrder$Case;"⟩ ⟨"CryOrder", "find", "(I)LCryOrder$Case;"⟩) ∈ lw_all := lw_g (lw_at lw_ms 13 rfl) rfl
theorem qs14 : (Cond.selects "CryOrder" ⟨"CryOrder", "plans", "(I)V"⟩ ⟨"CryOrder", "plans", "(I)V"⟩) ∈ lw_all := lw_g (lw_at lw_ms 14 rfl) rfl
theorem qs15 : (Cond.selects "java/util/ArrayList" ⟨"java/util/ArrayList", "rangeCheckForAdd", "(I)V"⟩ ⟨"java/util/ArrayList", "rangeCheckForAdd", "(I)V"⟩) ∈ lw_all := lw_g (lw_at lw_ms 15 rfl) rfl
theorem qs16 : (Cond.selects "CryOrderModel" ⟨"CryOrderModel", "isLive", "(I)Z"⟩ ⟨"CryOrderModel", "isLive", "(I)Z"⟩) ∈ lw_all := lw_g (lw_at lw_ms 16 rfl) rfl
theorem qs17 : (Cond.selects "CryOrderModel" ⟨"CryOrderModel", "isAlarm", "(I)Z"⟩ ⟨"CryOrderModel", "isAlarm", "(I)Z"⟩) ∈ lw_all := lw_g (lw_at lw_ms 17 rfl) rfl
theorem qs18 : (Cond.selects "CryOrderModel" ⟨"CryOrderModel", "tieOf", "(II)I"⟩ ⟨"CryOrderModel", "tieOf", "(II)I"⟩) ∈ lw_all := lw_g (lw_at lw_ms 18 rfl) rfl
theorem qs19 : (Cond.selects "CryOrderModel" ⟨"CryOrderModel", "counts", "(II)V"⟩ ⟨"CryOrderModel", "counts", "(II)V"⟩) ∈ lw_all := lw_g (lw_at lw_ms 19 rfl) rfl
theorem qs20 : (Cond.selects "CryOrderModel" ⟨"CryOrderModel", "depth", "(I)I"⟩ ⟨"CryOrderModel", "depth", "(I)I"⟩) ∈ lw_all := lw_g (lw_at lw_ms 20 rfl) rfl
theorem qs21 : (Cond.selects "CryOrderModel" ⟨"CryOrderModel", "score", "(I)I"⟩ ⟨"CryOrderModel", "score", "(I)I"⟩) ∈ lw_all := lw_g (lw_at lw_ms 21 rfl) rfl
theorem qs22 : (Cond.selects "CryOrderModel" ⟨"CryOrderModel", "joins", "()V"⟩ ⟨"CryOrderModel", "joins", "()V"⟩) ∈ lw_all := lw_g (lw_at lw_ms 22 rfl) rfl
theorem qs23 : (Cond.selects "CryOrderModel" ⟨"CryOrderModel", "hangs", "(II)Z"⟩ ⟨"CryOrderModel", "hangs", "(II)Z"⟩) ∈ lw_all := lw_g (lw_at lw_ms 23 rfl) rfl
theorem qs24 : (Cond.selects "CryOrderModel" ⟨"CryOrderModel", "scoreOf", "(I)I"⟩ ⟨"CryOrderModel", "scoreOf", "(I)I"⟩) ∈ lw_all := lw_g (lw_at lw_ms 24 rfl) rfl
theorem qs25 : (Cond.selects "CryOrderModel" ⟨"CryOrderModel", "sizeOf", "(I)I"⟩ ⟨"CryOrderModel", "sizeOf", "(I)I"⟩) ∈ lw_all := lw_g (lw_at lw_ms 25 rfl) rfl
theorem qs26 : (Cond.selects "CryOrderModel" ⟨"CryOrderModel", "minutesOf", "(I)I"⟩ ⟨"CryOrderModel", "minutesOf", "(I)I"⟩) ∈ lw_all := lw_g (lw_at lw_ms 26 rfl) rfl
theorem qs27 : (Cond.selects "CryOrderModel" ⟨"CryOrderModel", "isLittleKnown", "(I)Z"⟩ ⟨"CryOrderModel", "isLittleKnown", "(I)Z"⟩) ∈ lw_all := lw_g (lw_at lw_ms 27 rfl) rfl
theorem qs28 : (Cond.selects "CryOrderModel" ⟨"CryOrderModel", "plans", "(I)V"⟩ ⟨"CryOrderModel", "plans", "(I)V"⟩) ∈ lw_all := lw_g (lw_at lw_ms 28 rfl) rfl
theorem qs29 : (Cond.selects "CryOrderModel" ⟨"CryOrderModel", "isTaken", "(I)Z"⟩ ⟨"CryOrderModel", "isTaken", "(I)Z"⟩) ∈ lw_all := lw_g (lw_at lw_ms 29 rfl) rfl
