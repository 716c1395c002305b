/-! exceptions, first part: what a throw leaves -/
set_option maxRecDepth 100000
/-- places that really differ -/
def eOnly (s T : State) (L : List Loc) : Prop := ∀ (a i : Nat) (c c' : Cell), s.heap[a]? = some c → T.heap[a]? = some c' → c'.slots[i]? = c.slots[i]? → (⟨a, i⟩ : Loc) ∉ L
theorem e_sift {s T : State} {locs : List Loc} {k n : Nat} (h : s.sameButNew T locs k n) : ∃ L, s.sameButNew T L k n ∧ (∀ x ∈ L, x ∈ locs) ∧ eOnly s T L := by
  obtain ⟨h1, h2, h3, h4, h5, h6⟩ := h
  refine ⟨locs.filter (fun l => @decide (¬ ∃ c c' : Cell, s.heap[l.base]? = some c ∧ T.heap[l.base]? = some c' ∧ c'.slots[l.slot]? = c.slots[l.slot]?) (Classical.propDecidable _)), ⟨h1, h2, h3, h4, h5, fun a c hc => ?_⟩, fun x hx => (List.mem_filter.mp hx).1, fun a i c c' e1 e2 e3 hm => ?_⟩
  · obtain ⟨c', g1, g2, g3, g4⟩ := h6 a c hc
    refine ⟨c', g1, g2, g3, fun i hi => ?_⟩
    by_cases q : (⟨a, i⟩ : Loc) ∈ locs
    · by_cases z : c'.slots[i]? = c.slots[i]?
      · exact z
      · refine absurd (List.mem_filter.mpr ⟨q, @decide_eq_true _ (Classical.propDecidable _) ?_⟩) hi
        rintro ⟨d, d', e1, e2, e3⟩
        have e1 : s.heap[a]? = some d := e1
        have e2 : T.heap[a]? = some d' := e2
        cases hc.symm.trans e1
        cases g1.symm.trans e2
        exact z e3
    · exact g4 i q
  · have := @of_decide_eq_true _ (Classical.propDecidable _) (List.mem_filter.mp hm).2
    exact this ⟨c, c', e1, e2, e3⟩
/-- a world that stands at the start and now, stands behind what touches only places that differ -/
theorem e_world {D : va_G} {cl : List vw_C} {ws : va_W} {s T U : State} {L : List Loc} {k n : Nat} (hP0 : va_P D cl ws s.heap) (hP : va_P D cl ws T.heap) (ho : eOnly s T L) (hs : s.sameButNew U L k n) : va_P D cl ws U.heap := by
  intro j q hq
  have a0 := hP0 j q hq
  have a1 := hP j q hq
  obtain ⟨b, x⟩ := q
  rcases x with x | x
  · have a0 : s.heap[b]? = some (vp_cell x.1 x.2) := a0
    have a1 : T.heap[b]? = some (vp_cell x.1 x.2) := a1
    obtain ⟨c', g1, g2, g3, g4⟩ := hs.2.2.2.2.2 b _ a0
    have e : c'.slots = (vp_cell x.1 x.2).slots := Array.ext_getElem? (fun i => g4 i (ho b i _ _ a0 a1 rfl))
    show U.heap[b]? = some (vp_cell x.1 x.2)
    rw [g1, g2, e]
  · obtain ⟨r, r1, c0, o1, o2, o3, o4⟩ := a0
    obtain ⟨r', r1', c1, p1, p2, p3, p4⟩ := a1
    cases r1.symm.trans r1'
    obtain ⟨c', g1, g2, g3, g4⟩ := hs.2.2.2.2.2 b _ o1
    refine ⟨r, r1, c', g1, by rw [g2]; exact o2, by rw [g2]; exact o3, fun i hi => ?_⟩
    rw [g4 _ (ho b _ _ _ o1 p1 ((p4 i hi).trans (o4 i hi).symm))]
    exact o4 i hi
