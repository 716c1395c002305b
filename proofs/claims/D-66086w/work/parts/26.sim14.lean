/-! THE PLAIN LAW, fourteenth part: a slot -/
set_option maxRecDepth 100000
theorem Sim.s {c : Nat} {T S : XS} (h : Sim c T S) {k : Nat} (v : Int32) (hk : k = 0 ∨ k = 1 ∨ k = 3) : Sim c (xs T k v) (xs S k v) := by
  obtain ⟨⟨b1, b2, b3, b4, b5, b6, b7, b8, b9⟩, hr, hp⟩ := h
  have ag := Ag.s (⟨b1, b2⟩ : Ag T S) k v
  rcases hk with rfl | rfl | rfl
  · exact ⟨⟨ag.1, ag.2, b3, b4, b5, b6, b7, b8, b9⟩, hr, hp⟩
  · exact ⟨⟨ag.1, ag.2, b3, b4, b5, b6, b7, b8, b9⟩, hr, hp⟩
  · exact ⟨⟨ag.1, ag.2, b3, b4, b5, b6, b7, b8, b9⟩, hr, hp⟩
theorem Sim.s19 {c : Nat} {T S : XS} (h : Sim c T S) (v : Int32) : Sim c T (xs S 19 v) := by
  obtain ⟨⟨b1, b2, b3, b4, b5, b6, b7, b8, b9⟩, hr, hp⟩ := h
  have ag := Ag.sr (⟨b1, b2⟩ : Ag T S) (k := 19) v (by omega)
  exact ⟨⟨ag.1, ag.2, b3, b4, b5, b6, b7, b8, b9⟩, hr, hp⟩
theorem Sim.off {c : Nat} {T S : XS} (h : Sim c T S) : T.1 17 = 0 ↔ S.1 18 = 0 := by
  rcases h.2.2 with q | q | q | q | q
  · exact ⟨fun _ => q.1, fun _ => q.2.1⟩
  · exact ⟨fun z => absurd (q.2.1.symm.trans z) (by decide), fun z => absurd (q.1.symm.trans z) (by decide)⟩
  · exact ⟨fun z => absurd (q.2.1.symm.trans z) (by decide), fun z => absurd (q.1.symm.trans z) (by decide)⟩
  · exact ⟨fun z => absurd (q.2.1.symm.trans z) (by decide), fun z => absurd (q.1.symm.trans z) (by decide)⟩
  · exact ⟨fun z => absurd (q.2.1.symm.trans z) (by decide), fun z => absurd (q.1.symm.trans z) (by decide)⟩
theorem floop_off {S : XS} (h : S.1 18 = 0) (k : Int32) (n : Nat) : f_loop S n = S ∧ f_loopR S k n = k := by
  cases n with
  | zero => exact ⟨rfl, rfl⟩
  | succ n =>
    unfold f_loop f_loopR
    rw [if_pos h, if_pos h]
    exact ⟨rfl, rfl⟩
theorem loop_sim : ∀ (n c : Nat) (T S : XS), c + 2 * n < 40000 → Sim c T S → Sim (c + 2 * n) (g_loop T n) (f_loop S n) ∧ (∀ k, f_loopR S k n = g_loopR T k n) ∧ Kp T (g_loop T n)
  | 0, c, T, S, _, h => ⟨h, fun _ => rfl, Kp.rf T⟩
  | n + 1, c, T, S, hc, h => by
    unfold g_loop f_loop g_loopR f_loopR
    by_cases q : S.1 18 = 0
    · rw [if_pos q, if_pos (h.off.mpr q)]
      refine ⟨h.mono (by omega), fun k => ?_, Kp.rf T⟩
      rw [if_pos q, if_pos (h.off.mpr q)]
    · obtain ⟨s1, s2, s3, s4, _, _, _, _, _, s5⟩ := step_sim (by omega) h q
      have q' : ¬ T.1 17 = 0 := fun z => q (h.off.mp z)
      rw [if_neg q, if_neg q']
      by_cases e : g_stepR T = 0
      · obtain ⟨o1, _⟩ := floop_off (s4 e) 0 n
        rw [if_pos e, o1]
        refine ⟨s1.mono (by omega), fun k => ?_, s5⟩
        rw [if_neg q, if_neg q', if_pos e, s2, if_pos e, (floop_off (s4 e) k n).2]
      · obtain ⟨l1, l2, l3⟩ := loop_sim n (c + 2) (g_step T) (f_step S) (by omega) s1
        rw [if_neg e]
        refine ⟨by rw [show c + 2 * (n + 1) = c + 2 + 2 * n by omega]; exact l1, fun k => ?_, s5.tr l3⟩
        rw [if_neg q, if_neg q', if_neg e, s2, if_neg e, l2]
/-- the boot -/
def g_booted (T : XS) : XS := xs (g_boot1 T) 17 (if T.2 0 2 = 0 then 7 else 6)
theorem boot_sim {c : Nat} {T S : XS} (h : Sim c T S) (h18 : S.1 18 = 0) : Sim c (g_booted T) (f_booted S) := by
  obtain ⟨⟨b1, b2, b3, b4, ⟨hd, s, d1, d2, d3, d4, d5, d6⟩, b6, b7, b8, b9⟩, hr, hp⟩ := h
  have q : pOff c T S := by
    rcases hp with q | q | q | q | q
    · exact q
    · exact absurd (q.1.symm.trans h18) (by decide)
    · exact absurd (q.1.symm.trans h18) (by decide)
    · exact absurd (q.1.symm.trans h18) (by decide)
    · exact absurd (q.1.symm.trans h18) (by decide)
  have ag : Ag T S := ⟨b1, b2⟩
  unfold g_booted f_booted g_boot1
  rw [b2 0 (by omega), b1 0 (by decide)]
  have ag' := ((((ag.s 0 (S.1 0 - 60)).s 8 0).s 7 0).sl (k := 17) (if S.2 0 2 = 0 then 7 else 6) (by omega)).sr (k := 18) (if S.2 0 2 = 0 then 2 else 1) (by omega)
  have base : Base c (xs (xs (xs (xs T 0 (S.1 0 - 60)) 8 0) 7 0) 17 (if S.2 0 2 = 0 then 7 else 6)) (xs (xs (xs (xs S 0 (S.1 0 - 60)) 8 0) 7 0) 18 (if S.2 0 2 = 0 then 2 else 1)) := ⟨ag'.1, ag'.2, b3, b4, ⟨hd, s, d1, d2, d3, d4, d5, Or.inl rfl⟩, b6, b7, b8, b9⟩
  refine ⟨base, hr, ?_⟩
  obtain ⟨q1, q2, q3, q4⟩ := q
  rcases q4 with ⟨z, k⟩ | ⟨n, mk⟩
  · refine Or.inr (Or.inr (Or.inl ⟨?_, ?_, q3, z, k, fun e => absurd (show (0 : Int32) = 1 from e) (by decide)⟩))
    · show (if S.2 0 2 = 0 then (2 : Int32) else 1) = 2
      rw [if_pos z]
    · show (if S.2 0 2 = 0 then (7 : Int32) else 6) = 7
      rw [if_pos z]
  · have nz : ¬ S.2 0 2 = 0 := by
      rw [mk.2.2.1, show (0 : Int32) = nI 0 from rfl, nI_eq (by have := mk.2.1; omega) (by decide)]
      have := mk.1; omega
    refine Or.inr (Or.inl ⟨?_, ?_, q3, rfl, n, 0, mk, by omega, rfl, fun e he => absurd he (by omega)⟩)
    · show (if S.2 0 2 = 0 then (2 : Int32) else 1) = 1
      rw [if_neg nz]
    · show (if S.2 0 2 = 0 then (7 : Int32) else 6) = 6
      rw [if_neg nz]
theorem harv_sim {c : Nat} {T S : XS} (h : Sim c T S) (x : Int32) : Sim c (g_harv T x) (f_harv S x) := by
  have e0 : T.1 0 = S.1 0 := h.1.2.1 0 (by omega)
  have e1 : T.1 1 = S.1 1 := h.1.2.1 1 (by omega)
  unfold g_harv f_harv
  rw [e0, e1, min_le]
  exact (h.s (k := 0) _ (by omega)).s (k := 1) _ (by omega)
theorem wants_ge {c : Nat} {T S : XS} (hc : c < 50000) (h : Sim c T S) : g_wants T = f_wants S ∧ (S.1 0 < 60 → ¬ f_wants S ≤ S.1 0) := by
  obtain ⟨⟨b1, b2, b3, b4, b5, b6, b7, b8, b9⟩, hr, hp⟩ := h
  obtain ⟨t, t1, t2⟩ := vp_in_of b9 (by decide)
  obtain ⟨x, x1, x2⟩ := b6 t t1
  refine ⟨?_, fun hl => ?_⟩
  · unfold g_wants f_wants
    rw [b1 6 (by decide), b1 0 (by decide), min_le]
  · unfold f_wants
    rw [t2, show ix (nI t) = t from nI_clamp (by omega), x1, show (60 : Int32) = nI 60 from rfl, nI_add]
    have h60 : (S.1 0).toInt < 60 := Int32.lt_iff_toInt_lt.mp hl
    intro hw
    have hw' := Int32.le_iff_toInt_le.mp hw
    split at hw'
    · rw [nI_toInt (by omega)] at hw'; omega
    · have : (2000 : Int32).toInt = 2000 := by decide
      omega
theorem boots_eq {c : Nat} {T S : XS} (hc : c < 50000) (h : Sim c T S) : (S.1 4 = -1 ∧ f_wants S ≤ S.1 0 → g_bootsR T = 1 ∧ g_boots T = g_booted T) ∧ (¬ (S.1 4 = -1 ∧ f_wants S ≤ S.1 0) → g_bootsR T = 0 ∧ g_boots T = T) := by
  obtain ⟨w1, w2⟩ := wants_ge hc h
  have e0 : T.1 0 = S.1 0 := h.1.2.1 0 (by omega)
  have e4 : T.1 4 = S.1 4 := h.1.2.1 4 (by omega)
  unfold g_bootsR g_boots
  rw [e4, e0, w1]
  refine ⟨fun q => ?_, fun q => ?_⟩
  · have n60 : ¬ S.1 0 < 60 := fun z => w2 z q.2
    rw [if_pos q.1, if_neg n60, if_pos q.2, if_pos q.1, if_neg n60, if_pos q.2]
    exact ⟨rfl, rfl⟩
  · by_cases q4 : S.1 4 = -1
    · rw [if_pos q4, if_pos q4]
      by_cases q6 : S.1 0 < 60
      · rw [if_pos q6, if_pos q6]; exact ⟨rfl, rfl⟩
      · have qw : ¬ f_wants S ≤ S.1 0 := fun z => q ⟨q4, z⟩
        rw [if_neg q6, if_neg q6, if_neg qw, if_neg qw]; exact ⟨rfl, rfl⟩
    · rw [if_neg q4, if_neg q4]; exact ⟨rfl, rfl⟩
theorem slot_sim {c : Nat} {T S : XS} (hc : c + 32 < 40000) (h : Sim c T S) (x : Int32) : Sim (c + 32) (g_slot T x) (f_slot1 (f_harv S x)) ∧ f_slot1R (f_harv S x) = g_slotR T x ∧ Kp T (g_slot T x) := by
  have hh := harv_sim h x
  have kh : Kp T (g_harv T x) := Kp.rf T
  unfold g_slot g_slotR
  generalize g_harv T x = T1 at *
  generalize f_harv S x = S1 at *
  unfold g_slot1 f_slot1 g_slot1R f_slot1R
  by_cases q : S1.1 18 = 0
  · have q' := hh.off.mpr q
    rw [if_pos q, if_pos q', if_pos q, if_pos q']
    by_cases w : S1.1 4 = -1 ∧ f_wants S1 ≤ S1.1 0
    · obtain ⟨w1, w2⟩ := (boots_eq (by omega) hh).1 w
      have kb : Kp T1 (g_booted T1) := Kp.rf T1
      obtain ⟨l1, l2, l3⟩ := loop_sim 16 c _ _ (by omega) (boot_sim hh q)
      rw [w1, w2, if_pos w.1, if_pos w.2, if_pos w.1, if_pos w.2, if_neg (by decide), if_neg (by decide)]
      exact ⟨l1, l2 0, kh.tr (kb.tr l3)⟩
    · obtain ⟨w1, w2⟩ := (boots_eq (by omega) hh).2 w
      have e1 : (if S1.1 4 = -1 then (if f_wants S1 ≤ S1.1 0 then f_loop (f_booted S1) 16 else S1) else S1) = S1 := by
        by_cases a : S1.1 4 = -1
        · rw [if_pos a, if_neg (fun b => w ⟨a, b⟩)]
        · rw [if_neg a]
      have e2 : (if S1.1 4 = -1 then (if f_wants S1 ≤ S1.1 0 then f_loopR (f_booted S1) 0 16 else -1) else -1) = -1 := by
        by_cases a : S1.1 4 = -1
        · rw [if_pos a, if_neg (fun b => w ⟨a, b⟩)]
        · rw [if_neg a]
      rw [e1, e2, w1, w2, if_pos rfl, if_pos rfl]
      exact ⟨hh.mono (by omega), rfl, kh⟩
  · have q' : ¬ T1.1 17 = 0 := fun z => q (hh.off.mp z)
    obtain ⟨l1, l2, l3⟩ := loop_sim 16 c _ _ (by omega) hh
    rw [if_neg q, if_neg q', if_neg q, if_neg q']
    exact ⟨l1, l2 0, kh.tr l3⟩
/-- what the walks of 'slot' ask -/
def PS (c j : Nat) (X : XS) : Prop := ∃ T, Sim (c + 2 * j) T X
theorem PS.step {c : Nat} (hc : c + 32 < 40000) : ∀ j T, j < 16 → PS c j T → ¬ T.1 18 = 0 → stepOk (f_begin T) ∧ vp_in ((f_phase (f_begin T)).2 0 0) 16 ∧ PS c (j + 1) (f_step T) := by
  rintro j S hj ⟨T, h⟩ h18
  obtain ⟨s1, _, _, _, s5, s6, _⟩ := step_sim (by omega) h h18
  exact ⟨s5, s6, g_step T, by rw [show c + 2 * (j + 1) = c + 2 * j + 2 by omega]; exact s1⟩
def QS (c : Nat) (cd sz : Nat → Int32) (j : Nat) (X : XS) : Prop := (∃ S, Sim (c + 2 * j) X S) ∧ X.2 12 = cd ∧ X.2 13 = sz
theorem QS.step {c : Nat} {cd sz : Nat → Int32} (hc : c + 32 < 40000) : ∀ j T, j < 16 → QS c cd sz j T → ¬ T.1 17 = 0 → stOk (T.1 17) ∧ stepOkC cd sz (g_pre T) ∧ failOkC (g_actS (g_pay (g_pre T) (g_cost (g_pre T)))) ∧ QS c cd sz (j + 1) (g_step T) := by
  rintro j T hj ⟨⟨S, h⟩, e1, e2⟩ h17
  obtain ⟨s1, _, _, _, _, _, s7, s8, s9, s10⟩ := step_sim (by omega) h (fun z => h17 (h.off.mpr z))
  exact ⟨s7, s8 cd sz e1 e2, s9, ⟨f_step S, by rw [show c + 2 * (j + 1) = c + 2 * j + 2 by omega]; exact s1⟩, s10.1.trans e1, s10.2.1.trans e2⟩
