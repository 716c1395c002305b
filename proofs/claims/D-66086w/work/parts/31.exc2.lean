/-! exceptions, second part: new, dup, constructor, athrow -/
set_option maxRecDepth 100000
/-- what a throw leaves: the exception's cell, the world as it was -/
def eThrew (K : YK) (C : String) (ws : va_W) (t : State) : Prop := ∃ (a : Nat) (ce : Cell) (L : List Loc), t.status = .running ∧ Ended t (kb K) (.threw a) ∧ (ks K).WarmedH t.vm ∧ (ks K).sameButNew ({ t with vm := (ks K).vm } : State) L 1 6 ∧ (∀ x ∈ L, kA K x.base) ∧ va_P (kD K) y_cl ws t.heap ∧ t.heap[a]? = some ce ∧ (ks K).vm.findClass C = some ce.cls ∧ ce.vm = .none ∧ (ks K).heap.size ≤ a
theorem y_throw {K : YK} {cc : ByteArray} {own : String} {nL d : Nat} {ws : va_W} {lv : List Value} {pc p1 p2 p3 p4 : Nat} (o : Y K cc own nL d) {C : String} {names : List String} {ic inew : Nat} (htr : (kE K).platform.stackTraces = false) (hfit : Bundle.fit C = true) (hnames : ∀ n ∈ names, Bundle.fit n = true)
    (hwords : ∀ a ∈ Bundle.ownAtoms0 own ic C names, a.before (ka K) (ks K) = true) (hcl : Cond.classLink own inew C ∈ lw_all) (hins : Cond.instantiable C 6 ∈ lw_all) (hini : Cond.initialized C ∈ lw_all)
    (hP0 : va_P (kD K) y_cl ws (ks K).heap) (hstat : ∀ q, kA K q → ∀ cell, (ks K).heap[q]? = some cell → cell.vm.isStatics = false)
    (h1 : dk cc pc (.new inew) 3 p1) (h2 : dk cc p1 .dup 1 p2) (h3 : dk cc p2 (.invokespecial ic) 3 p3) (h4 : dk cc p3 .athrow 1 p4) (hex : ∀ x ∈ (kc K).exceptionTable.toList, covers x p3 = false)
    (hroom : 1 ≤ (kR K).cells ∧ 6 ≤ (kR K).slots ∧ names.length + 3 < (kR K).frames ∧ 1 + (13 * (names.length + 1) + 41) ≤ (kR K).locals)
    (hq : ∀ t, eThrew K C ws t → kQ K t) : Vw K nL ws 0 0 lv pc [] := by
  intro H locs ls hP hD hS hl
  obtain ⟨d1, e1⟩ := h1; subst e1
  obtain ⟨d2, e2⟩ := h2; subst e2
  obtain ⟨d3, e3⟩ := h3; subst e3
  obtain ⟨d4, _⟩ := h4
  obtain ⟨cC, kC, hfc, hkC, _⟩ := Cond.instantiable_spec (o.2.2.2.2.1 _ hins)
  refine W.newcK o.1 o.2.1 o.2.2.2.1 (o.2.2.2.2.1 _ hcl) (o.2.2.2.2.1 _ hins) (o.2.2.2.2.1 _ hini) rfl d1 hroom.1 hroom.2.1 hfc rfl fun H1 kC' hkC' b1 b2 b3 => ?_
  cases hkC.symm.trans hkC'
  refine lv_dup o.1 o.2.1 d2 rfl ?_
  intro T hT X
  have hP1 : va_P (kD K) y_cl ws T.heap := by
    rw [hT]
    exact hP.kept (fun k x hx => b3 x.1 ((hP k x hx).lt))
  obtain ⟨L, g1, g2, g3⟩ := e_sift X.same
  have X' : Stand (kP K) (kL K) (kE K) (kR K) (ks K) (km K) (ka K) (kb K) (kM K) (kc K) T L (0 + 1) (0 + 6) := { X with same := g1 }
  have hlo : ∀ x ∈ L, kA K x.base := fun x hx => hS.2.2 x (g2 x hx)
  obtain ⟨U, u1, u2, u3, u4, u5, ce, u6, u7⟩ := X'.ctorThrow0 o.1 htr o.2.2.2.1 hfit hnames hwords (fun x hx => hstat _ (hlo x hx)) hfc hkC (a := H.size) (by rw [hT]; exact b1) hS.1 (g := F0 (km K) (pc + 3 + 1) ls [.ref H.size, .ref H.size]) rfl (hl.1.trans o.2.2.1.symm) rfl rfl (rest := []) rfl (by rw [o.2.1]; exact d3) (by rw [o.2.1]; exact d4) hex hroom.2.2.1 (by
    have hm : (F0 (km K) (pc + 3 + 1) ls [.ref H.size, .ref H.size]).monitorRoom = 0 := rfl
    rw [hm]
    have := hroom.2.2.2
    simp only [List.map_cons, List.map_nil, List.sum_cons, List.sum_nil, Value.category]
    omega) o.2.2.2.2.2.2.2.2.1
  refine ⟨U, u1, hq U ⟨H.size, ce, L, u2, u3, u4, u5, hlo, ?_, u6, u7.cls, u7.vm, hS.1⟩⟩
  exact e_world (U := ({ U with vm := (ks K).vm } : State)) (T := T.setVm (ks K).vm) hP0 hP1 g3 u5
