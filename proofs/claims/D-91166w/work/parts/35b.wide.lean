/-! A CALL with a deeper operand stack (up to 12 words) below its arguments -/
section GWide
variable {x : gX} {l : Launch} {G : gG} {y : MethodName} {cc : ByteArray} {rm : Room} {nl : Nat} {ret : Option FieldType} {Q : State → Prop} {M : gH} {k n pc : Nat} {lv : List (Nat × Value)} {st : List Value}
theorem g_callV12 (hx : GX x l G y cc rm nl ret) {y' : MethodName} {c' : ByteArray} {nl' : Nat} {rm' : Room} {As rest : List Value} {Post : Option Value → gH → Prop} {mc ms index na : Nat} {ret' : Option FieldType} {b ci N : Nat} {lab : gL} {fs : List Value} {T : u_T} (hM' : GMet l y' (ws_ y' c' nl' ret') rm' G (.ref b :: As) M Post mc ms) (hb : M b = some (lab, .inr (ci, fs))) (hc : Cl[ci]? = some (y'.cls, T, N)) (hw : GoodIn lw_all (wsV y.cls index y'.cls y' (ws_ y' c' nl' ret'))) (hrc : rm'.cells = mc) (hrs : rm'.slots = ms) (hpd : y'.cls ≠ "java/lang/invoke/MethodHandle" ∧ y'.cls ≠ "java/lang/invoke/VarHandle" ∧ (parseMethodDescriptor y'.desc).map (fun d => d.parameters.length) = some na) (hna : As.length = na) (hR : rm'.frames + 1 ≤ rm.frames ∧ 12 + (nl' + 11) + rm'.locals ≤ rm.locals) (hst : st = As.reverse ++ .ref b :: rest) (hcat : (rest.map fun v => v.category).sum ≤ 12) (hd : decode cc pc = .ok (.invokevirtual index, 3)) (hf : k + mc ≤ rm.cells ∧ n + ms ≤ rm.slots) (K : ∀ v M', Post v M' → GW x Q M' (k + mc) (n + ms) (pc + 3) lv (v.toList ++ rest)) : GW x Q M k n pc lv st := by
  obtain ⟨p, l0, e, R, s, m, args, below, meth, c, G0, nL⟩ := x
  obtain ⟨rfl, rfl, rfl, rfl, h1, h2, h3, h4, h5, h6, h7, h8, h9, h10⟩ := hx
  intro H locs ls hM hS hl
  subst hst
  subst hna
  obtain ⟨i, hi⟩ := lst_mem (hM.lt hb) hb
  obtain ⟨⟨-, -, hfr, -, hws, hcw, hcode, hini, hy, hlen, hlk⟩, hin, hse⟩ := cwV (R := R) As.length h6 hw rfl hrc hrs ⟨rfl, hpd⟩ ⟨hR.1, by have := hR.2; omega⟩
  have hbl : FrameBlind (va_Pc (.ref b :: As) (Wd G0 M)) := fun a U g mk q => ⟨q.1, q.2.calling g mk a⟩
  have hK : Back l0 R p e below s args y' 3 12 (PreOf R mc ms (va_Pc (.ref b :: As) (Wd G0 M))) (PostOf (gQ G0 Post) mc ms (gA G0)) := back_of (bytes := c') (maxL := nl') (ret := ret') hM' hbl hrc hrs hfr hR.2 hws hcw (fun a' U hW => word_at hW (Or.inl (by first | rfl | simp [Cond.onTables, Cond.keeps, Cond.steady])) hini)
  obtain ⟨cellB, hcB, hoB, hclB⟩ := va_recv h9.1 hM.P hc hi
  refine g_run (l := l0) (G := G0) (mc := mc) (ms := ms) (rest := rest) (Post := Post) (a := (Value.ref b :: As).toArray) ?_ hS (fun v M' H1 locs1 hp hm hs => K v M' hp H1 locs1 ls hm hs hl)
  intro T hT X
  obtain ⟨v, vm₁, ⟨U', l2, c2, s2⟩, hW₁, X', ⟨g', mk, t, L, e1, e2, hq, q1, hL, q2, q3⟩, st⟩ := callV X h1 (C := y'.cls) (bytes := c') (maxL := nl') (ret := ret') h4 hlk hin hse hcode hy hK (by rw [hT]; exact hcB) hoB hclB (g := F0 m pc ls (As.reverse ++ .ref b :: rest)) rfl (hl.1.trans h3.symm) (argsL := As) (rest := rest) hlen rfl (by show 2 * 0 + _ ≤ 12; omega) (by rw [h2]; exact hd)
    (fun vm₁ hW₁ => ⟨hf.1, hf.2, rfl, g_wd (p := p) (e := e) (R := R) hM hS h9 h10 hT hW₁⟩)
  dsimp only [Pt.U, Pt.locs, Pt.cells, Pt.slots] at X' e1 e2 q1 q2 q3 st
  subst q1; subst q2; subst q3
  exact ⟨v, (T.setVm vm₁).calling g' mk (Value.ref b :: As).toArray, t, U', L, hT, X', hL, e1, e2, hq, st⟩
theorem g_pcallV12 (hx : GX x l G y cc rm nl ret) {y' : MethodName} {c' : ByteArray} {nl' : Nat} {rm' : Room} {As rest : List Value} {index na : Nat} {r : Value} {ret' : Option FieldType} {b ci N : Nat} {lab : gL} {fs : List Value} {T : u_T} (hM' : GMet l y' (ws_ y' c' nl' ret') rm' G (.ref b :: As) M (pV M r) 0 0) (hb : M b = some (lab, .inr (ci, fs))) (hc : Cl[ci]? = some (y'.cls, T, N)) (hw : GoodIn lw_all (wsV y.cls index y'.cls y' (ws_ y' c' nl' ret'))) (hrc : rm'.cells = 0) (hrs : rm'.slots = 0) (hpd : y'.cls ≠ "java/lang/invoke/MethodHandle" ∧ y'.cls ≠ "java/lang/invoke/VarHandle" ∧ (parseMethodDescriptor y'.desc).map (fun d => d.parameters.length) = some na) (hna : As.length = na) (hR : rm'.frames + 1 ≤ rm.frames ∧ 12 + (nl' + 11) + rm'.locals ≤ rm.locals) (hst : st = As.reverse ++ .ref b :: rest) (hcat : (rest.map fun v => v.category).sum ≤ 12) (hd : decode cc pc = .ok (.invokevirtual index, 3)) (hf : k ≤ rm.cells ∧ n ≤ rm.slots) (K : GW x Q M k n (pc + 3) lv (r :: rest)) : GW x Q M k n pc lv st :=
  g_callV12 hx hM' hb hc hw hrc hrs hpd hna hR hst hcat hd hf (fun v M' h => by obtain ⟨rfl, rfl⟩ := h; exact K)
end GWide
