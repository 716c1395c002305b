/-! THE PLAIN LAW, fifteenth part: the whole relation; answers and calls that don't step -/
set_option maxRecDepth 100000
def R (c : Nat) (T S : XS) : Prop := Base c T S ∧ ((S.1 14 = 0 ∧ S.1 18 = 0 ∧ T.1 17 = 0 ∧ Idle S ∧ ∀ k, S.2 0 k = 0) ∨ (S.1 14 = 1 ∧ allR S ∧ Phase c T S))
theorem R.mono {c c' : Nat} {T S : XS} (h : R c T S) (hc : c ≤ c') : R c' T S := by
  refine ⟨h.1.mono hc, ?_⟩
  rcases h.2 with q | ⟨a, b, d⟩
  · exact Or.inl q
  · exact Or.inr ⟨a, b, d.mono hc⟩
theorem R.e14 {c : Nat} {T S : XS} (h : R c T S) : T.1 14 = S.1 14 := h.1.2.1 14 (by omega)
theorem R.sealed {c : Nat} {T S : XS} (h : R c T S) : S.1 14 = 0 ∨ S.1 14 = 1 := by
  rcases h.2 with q | q
  · exact Or.inl q.1
  · exact Or.inr q.1
theorem R.sim {c : Nat} {T S : XS} (h : R c T S) (h14 : ¬ S.1 14 = 0) : Sim c T S := by
  rcases h.2 with q | ⟨_, a, b⟩
  · exact absurd q.1 h14
  · exact ⟨h.1, a, b⟩
theorem R.s19 {c : Nat} {T S : XS} (h : R c T S) (v : Int32) : R c T (xs S 19 v) := by
  obtain ⟨⟨b1, b2, b3, b4, b5, b6, b7, b8, b9⟩, hp⟩ := h
  have ag := Ag.sr (⟨b1, b2⟩ : Ag T S) (k := 19) v (by omega)
  exact ⟨⟨ag.1, ag.2, b3, b4, b5, b6, b7, b8, b9⟩, hp⟩
theorem R.s3 {c : Nat} {T S : XS} (h : R c T S) (v : Int32) : R c (xs T 3 v) (xs S 3 v) := by
  refine ⟨h.1.s3 v, ?_⟩
  rcases h.2 with q | q
  · exact Or.inl q
  · exact Or.inr q
theorem R.a5 {c : Nat} {T S : XS} (h : R c T S) (i : Nat) (v : Int32) : R c (xa T 5 i v) (xa S 5 i v) := by
  obtain ⟨⟨b1, b2, b3, b4, b5, b6, b7, b8, b9⟩, hp⟩ := h
  have ag := Ag.a (⟨b1, b2⟩ : Ag T S) 5 i v
  refine ⟨⟨ag.1, ag.2, b3, b4, b5, b6, b7, b8, b9⟩, ?_⟩
  rcases hp with q | q
  · exact Or.inl q
  · exact Or.inr q
theorem R.cut {c : Nat} {T S : XS} (h : R c T S) (x : Int32) : R c (g_cutC T x) (f_cutC S x) := by
  unfold g_cutC f_cutC
  split
  · exact h.s19 0
  · split
    · exact (h.s19 0).s3 x
    · exact h.s19 0
theorem R.sense {c : Nat} {T S : XS} (h : R c T S) (k v : Int32) : R c (g_sense T k v) (f_sense S k v) := by
  unfold g_sense f_sense
  split
  · exact h.s19 0
  · split
    · exact (h.s19 0).a5 _ _
    · exact h.s19 0
theorem R.slot {c : Nat} {T S : XS} (hc : c + 32 < 40000) (h : R c T S) {x : Int32} (hx : f_thr S x = 0) : R (c + 32) (g_slot T x) (f_slot S x) ∧ f_slotR S x = g_slotR T x ∧ T.1 14 = 1 := by
  have h14 : ¬ S.1 14 = 0 := fun z => by
    unfold f_thr at hx
    rw [if_pos z] at hx
    exact absurd hx (by decide)
  have s1 : S.1 14 = 1 := by rcases h.sealed with q | q; exact absurd q h14; exact q
  have sm := (h.sim h14).s19 0
  obtain ⟨r1, r2, r3⟩ := slot_sim hc sm x
  have e1 : f_slot S x = f_slot1 (f_harv (xs S 19 0) x) := by
    unfold f_slot f_slot0
    rw [hx, s1s, if_pos rfl]
  have e2 : f_slotR S x = f_slot1R (f_harv (xs S 19 0) x) := by
    unfold f_slotR f_slotR0
    rw [hx, s1s, if_pos rfl]
  have e14 : (f_slot1 (f_harv (xs S 19 0) x)).1 14 = 1 := by
    rw [← r1.1.2.1 14 (by omega), r3.2.2, h.e14, s1]
  exact ⟨by rw [e1]; exact ⟨r1.1, Or.inr ⟨e14, r1.2.1, r1.2.2⟩⟩, by rw [e2]; exact r2, h.e14.trans s1⟩
theorem R.slot0 {c : Nat} {T S : XS} (h : R c T S) {x : Int32} (hx : ¬ f_thr S x = 0) : R c T (f_slot S x) := by
  have e1 : f_slot S x = xs S 19 (f_thr S x) := by
    unfold f_slot f_slot0
    rw [s1s, if_neg hx]
  rw [e1]
  exact h.s19 _
/-! the answers -/
def Ph (T S : XS) : Prop := (S.1 18 = 0 ∧ T.1 17 = 0 ∧ Idle S) ∨ (S.1 18 = 1 ∧ T.1 17 = 6 ∧ Idle S) ∨ (S.1 18 = 2 ∧ T.1 17 = 7 ∧ Idle S) ∨ (S.1 18 = 3 ∧ T.1 17 = 8 ∧ T.1 9 = S.1 9 ∧ T.1 12 = S.1 12) ∨ (S.1 18 = 4 ∧ T.1 17 = 9 ∧ T.1 12 - 2 = S.1 12)
theorem R.ph {c : Nat} {T S : XS} (h : R c T S) : Ph T S := by
  rcases h.2 with ⟨_, a, b, d, _⟩ | ⟨_, _, q⟩
  · exact Or.inl ⟨a, b, d⟩
  · rcases q with q | q | q | q | q
    · exact Or.inl ⟨q.1, q.2.1, q.2.2.1⟩
    · exact Or.inr (Or.inl ⟨q.1, q.2.1, q.2.2.1⟩)
    · exact Or.inr (Or.inr (Or.inl ⟨q.1, q.2.1, q.2.2.1⟩))
    · exact Or.inr (Or.inr (Or.inr (Or.inl ⟨q.1, q.2.1, q.2.2.1, q.2.2.2.2.1⟩)))
    · obtain ⟨h1, h2, h7, p, k, p38, q1, q2, _⟩ := q
      refine Or.inr (Or.inr (Or.inr (Or.inr ⟨h1, h2, ?_⟩)))
      rw [q2, q1, show (2 : Int32) = nI 2 from rfl, pk_sub (by omega)]
      rfl
theorem R.stOk {c : Nat} {T S : XS} (h : R c T S) : stOk (T.1 17) := by
  rcases h.ph with q | q | q | q | q
  · exact Or.inl q.2.1
  · exact Or.inr (Or.inl q.2.1)
  · exact Or.inr (Or.inr (Or.inl q.2.1))
  · exact Or.inr (Or.inr (Or.inr (Or.inl q.2.1)))
  · exact Or.inr (Or.inr (Or.inr (Or.inr q.2.1)))
theorem R.state {c : Nat} {T S : XS} (h : R c T S) (k : Int32) : g_stateR T k = f_stateR S k := by
  have hph := h.ph
  obtain ⟨⟨b1, b2, _⟩, _⟩ := h
  unfold f_stateR f_stateR0 g_stateR
  rw [s1n S 0 (show 18 ≠ 19 by decide), s1n S 0 (show 0 ≠ 19 by decide), s1n S 0 (show 1 ≠ 19 by decide), s1n S 0 (show 2 ≠ 19 by decide), s1n S 0 (show 12 ≠ 19 by decide), s1n S 0 (show 9 ≠ 19 by decide), s1n S 0 (show 4 ≠ 19 by decide), s1n S 0 (show 5 ≠ 19 by decide), s1n S 0 (show 6 ≠ 19 by decide), s1n S 0 (show 13 ≠ 19 by decide), b2 0 (by omega), b2 1 (by omega), b2 2 (by omega), b2 4 (by omega), b2 5 (by omega), b2 6 (by omega), b2 13 (by omega)]
  unfold g_phase f_att
  rw [s1n S 0 (show 18 ≠ 19 by decide)]
  rcases hph with ⟨q1, q2, q3⟩ | ⟨q1, q2, q3⟩ | ⟨q1, q2, q3⟩ | ⟨q1, q2, q3, q4⟩ | ⟨q1, q2, q3⟩
  · simp (decide := true) only [q1, q2, q3.2, if_true, if_false]
  · simp (decide := true) only [q1, q2, q3.2, if_true, if_false]
  · simp (decide := true) only [q1, q2, q3.2, if_true, if_false]
  · simp (decide := true) only [q1, q2, q3, q4, if_true, if_false]
  · simp (decide := true) only [q1, q2, q3, if_true, if_false]
theorem R.task {c : Nat} {T S : XS} (h : R c T S) (t w : Int32) : g_taskR T t w = f_taskR S t w := by
  have b1 := h.1.1
  unfold g_taskR f_taskR
  rw [b1 6 (by decide), b1 7 (by decide), b1 13 (by decide)]
  by_cases q : f_isTask t = 0
  · rw [if_pos q, if_pos q]
  · rw [if_neg q, if_neg q]
    by_cases w0 : w < 0
    · have n : ∀ v : Int32, 0 ≤ v.toInt → ¬ w = v := fun v hv e => by
        have := Int32.lt_iff_toInt_lt.mp w0
        rw [e] at this
        have z : (0 : Int32).toInt = 0 := by decide
        omega
      rw [if_pos w0, if_neg (n 0 (by decide)), if_neg (n 1 (by decide)), if_neg (n 2 (by decide))]
    · rw [if_neg w0]
      by_cases w2 : w ≤ 2
      · rw [if_pos w2]
        obtain ⟨j, j1, rfl⟩ := nI_of w0
        rw [show (2 : Int32) = nI 2 from rfl, nI_leI j1 (by decide)] at w2
        rcases (show j = 0 ∨ j = 1 ∨ j = 2 by omega) with e | e | e
        · rw [e]; rfl
        · rw [e]; rfl
        · rw [e]; rfl
      · have n : ∀ v : Int32, v ≤ 2 → ¬ w = v := fun v hv e => w2 (by rw [e]; exact hv)
        rw [if_neg w2, if_neg (n 0 (by decide)), if_neg (n 1 (by decide)), if_neg (n 2 (by decide))]
theorem R.register {c : Nat} {T S : XS} (h : R c T S) (k : Int32) : g_registerR T k = f_registerR S k := by
  have e4 : T.2 4 = S.2 4 := h.1.1 4 (by decide)
  unfold g_registerR f_registerR f_registerR0
  rw [s1n S 0 (show 18 ≠ 19 by decide), s2, e4]
  have idle : Idle S → (if k < 0 then (0 : Int32) else if k < 8 then S.2 4 (ix k) else 0) = 0 := fun q => by
    split
    · rfl
    · rename_i h0
      split
      · rename_i h8
        obtain ⟨j, j1, rfl⟩ := nI_of h0
        rw [show (8 : Int32) = nI 8 from rfl, nI_ltI j1 (by decide)] at h8
        rw [show ix (nI j) = j from nI_clamp j1]
        exact q.1 j h8
      · rfl
  have busy : (if k < 0 then (0 : Int32) else if k < 8 then S.2 4 (ix k) else 0) = if k < 0 then 0 else if 8 ≤ k then 0 else S.2 4 (ix k) := by
    by_cases h8 : k < 8
    · rw [if_pos h8, if_neg (Int32.not_le.mpr h8)]
    · rw [if_neg h8, if_pos (Int32.not_lt.mp h8)]
  rcases (R.ph h) with ⟨q1, q2, q3⟩ | ⟨q1, q2, q3⟩ | ⟨q1, q2, q3⟩ | ⟨q1, q2, q3, q4⟩ | ⟨q1, q2, q3⟩
  · rw [q1, idle q3, if_neg (by decide), if_neg (by decide)]
  · rw [q1, idle q3, if_neg (by decide), if_neg (by decide)]
  · rw [q1, idle q3, if_neg (by decide), if_neg (by decide)]
  · rw [q1, if_pos rfl]; exact busy
  · rw [q1, if_neg (show ¬ (4 : Int32) = 3 by decide), if_pos rfl]; exact busy
theorem R.aired {c : Nat} {T S : XS} (h : R c T S) (k w : Int32) : f_airedR0 T k w = f_airedR S k w := by
  unfold f_airedR f_airedR0
  rw [s1n S 0 (show 13 ≠ 19 by decide), s2, h.1.2.1 13 (by omega), h.1.1 8 (by decide), h.1.1 9 (by decide)]
theorem R.aired_in {c : Nat} {T S : XS} (hc : c < 50000) (h : R c T S) : vp_in (T.1 13) 1048576 ∧ vp_in (S.1 13) 1048576 := by
  obtain ⟨x, x1, x2⟩ := h.1.2.2.2.2.2.2.2.1
  rw [h.1.2.1 13 (by omega), x1]
  exact ⟨vp_in_nI (by omega) (by decide), vp_in_nI (by omega) (by decide)⟩
/-- what the far side has heard -/
theorem R.heard {c : Nat} {T S : XS} (hc : c < 50000) (h : R c T S) {k : Int32} (h0 : ¬ k < 0) : (g_keeps T k = 0 ↔ ¬ S.2 11 (ix (jrem k 64)) = k) ∧ (g_keeps T k = 0 ∨ g_keeps T k = 1) := by
  obtain ⟨hd, s, d1, d2, d3, d4, d5, d6⟩ := h.1.2.2.2.2.1
  obtain ⟨j, j1, rfl⟩ := nI_of h0
  have e1 : jrem (nI j) 64 = nI (j % 64) := jrem_nI (d := 64) j1 (by decide) (by decide)
  have e2 : ix (nI (j % 64)) = j % 64 := nI_clamp (by omega)
  have hh : hd < 60000 := by omega
  rw [e1, e2, d4 _ (Nat.mod_lt _ (by decide))]
  unfold g_keeps
  have el : nI hd ≤ nI j ↔ hd ≤ j := nI_leI (by omega) j1
  rw [if_neg h0, d3]
  unfold far
  by_cases q : hd ≤ j
  · rw [if_pos (el.mpr q)]
    refine ⟨⟨fun _ => ?_, fun _ => rfl⟩, Or.inl rfl⟩
    split
    · rw [nI_eq (by omega) j1]; omega
    · intro e
      exact h0 (by rw [← e]; decide)
  · rw [if_neg (fun z => q (el.mp z))]
    have e3 : (nI j < nI hd - 64) ↔ j + 64 < hd := by
      rw [Int32.lt_iff_toInt_lt, show (64 : Int32) = nI 64 from rfl, pk_sub_toInt (by omega) (by decide), nI_toInt (by omega)]
      omega
    by_cases q2 : j + 64 < hd
    · rw [if_pos (e3.mpr q2)]
      refine ⟨⟨fun _ => ?_, fun _ => rfl⟩, Or.inl rfl⟩
      rw [if_pos (by omega), nI_eq (by omega) (by omega)]
      omega
    · rw [if_neg (fun z => q2 (e3.mp z))]
      refine ⟨⟨fun z => absurd z (by decide), fun z => absurd ?_ z⟩, Or.inr rfl⟩
      rw [if_pos (by omega), nI_eq (by omega) (by omega)]
      omega
