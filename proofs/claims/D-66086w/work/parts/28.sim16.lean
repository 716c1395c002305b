/-! THE PLAIN LAW, sixteenth part: start, program, seal -/
set_option maxRecDepth 100000
theorem neg_at : ∀ (n k : Nat) (S : XS), (f_neg S n k).1 = S.1 ∧ (∀ j, j ≠ 11 → (f_neg S n k).2 j = S.2 j) ∧ (∀ i, k ≤ i → i < k + n → (f_neg S n k).2 11 i = -1) ∧ ∀ i, i < k ∨ k + n ≤ i → (f_neg S n k).2 11 i = S.2 11 i
  | 0, k, S => ⟨rfl, fun _ _ => rfl, fun i h1 h2 => absurd h2 (by omega), fun _ _ => rfl⟩
  | n + 1, k, S => by
    obtain ⟨h1, h2, h3, h4⟩ := neg_at n (k + 1) (xa S 11 k (-1))
    refine ⟨h1, fun j hj => (h2 j hj).trans (a2n _ _ _ hj), fun i hi1 hi2 => ?_, fun i hi => ?_⟩
    · by_cases c : i = k
      · show (f_neg (xa S 11 k (-1)) n (k + 1)).2 11 i = -1
        rw [h4 i (by omega), a2s, c, pk_us]
      · exact h3 i (by omega) (by omega)
    · show (f_neg (xa S 11 k (-1)) n (k + 1)).2 11 i = _
      rw [h4 i (by omega), a2s, pk_un (by omega)]
theorem R.start : R 0 z_S0 m_S0 := by
  obtain ⟨n1, n2, n3, n4⟩ := neg_at 64 0 z_S0
  have e1 : m_S0.1 = z_S0.1 := n1
  have k : ∀ j, j ≠ 11 → m_S0.2 j = fun _ => 0 := fun j hj => n2 j hj
  refine ⟨⟨fun j hj => (n2 j hj).symm, fun i _ => by rw [e1], ?_, fun t ht => ⟨0, by omega, by rw [k 13 (by decide)]; rfl⟩, ⟨0, 0, by rw [k 0 (by decide)]; rfl, Or.inl rfl, rfl, fun j hj => ?_, by omega, Or.inl (by rw [e1]; rfl)⟩, fun t ht => ⟨0, by rw [k 6 (by decide)]; rfl, by omega⟩, ⟨0, by rw [e1]; rfl, by omega⟩, ⟨0, by rw [e1]; rfl, by omega⟩, ?_⟩, Or.inl ⟨by rw [e1]; rfl, by rw [e1]; rfl, rfl, ⟨fun q _ => by rw [k 4 (by decide)], by rw [e1]; rfl⟩, fun q => by rw [k 0 (by decide)]⟩⟩
  · show vp_in (0 : Int32) 16
    exact vp_in_nI (n := 0) (by decide) (by decide)
  · rw [show m_S0.2 11 j = -1 from n3 j (by omega) (by omega)]
    unfold far
    rw [if_neg (by omega)]
  · rw [k 0 (by decide)]
    exact vp_in_nI (n := 0) (by decide) (by decide)
/-! programs -/
theorem R.a12 {c : Nat} {T S : XS} (h : R c T S) (h14 : S.1 14 = 0) (i : Nat) (v : Int32) : R c (xa T 12 i v) (xa S 12 i v) := by
  obtain ⟨⟨b1, b2, b3, b4, b5, b6, b7, b8, b9⟩, hp⟩ := h
  have ag := Ag.a (⟨b1, b2⟩ : Ag T S) 12 i v
  refine ⟨⟨ag.1, ag.2, b3, b4, b5, b6, b7, b8, b9⟩, ?_⟩
  rcases hp with q | q
  · exact Or.inl q
  · exact absurd (h14.symm.trans q.1) (by decide)
theorem R.a13 {c : Nat} {T S : XS} (h : R c T S) (h14 : S.1 14 = 0) (i z : Nat) (hz : z ≤ 32) : R c (xa T 13 i (nI z)) (xa S 13 i (nI z)) := by
  obtain ⟨⟨b1, b2, b3, b4, b5, b6, b7, b8, b9⟩, hp⟩ := h
  have ag := Ag.a (⟨b1, b2⟩ : Ag T S) 13 i (nI z)
  refine ⟨⟨ag.1, ag.2, b3, fun t ht => ?_, b5, b6, b7, b8, b9⟩, ?_⟩
  · show ∃ z', z' ≤ 32 ∧ upd (S.2 13) i (nI z) t = nI z'
    by_cases q : t = i
    · rw [q, pk_us]; exact ⟨z, hz, rfl⟩
    · rw [pk_un q]; exact b4 t ht
  rcases hp with q | q
  · exact Or.inl q
  · exact absurd (h14.symm.trans q.1) (by decide)
theorem R.program0 {c : Nat} {T S : XS} (h : R c T S) (t i w : Int32) : f_programR0 T t i = f_programR0 S t i ∧ R c (f_program0 T t i w) (f_program0 S t i w) := by
  have e13 : T.2 13 = S.2 13 := h.1.1 13 (by decide)
  have e14 := h.e14
  refine ⟨by unfold f_programR0; rw [e14, e13], ?_⟩
  unfold f_program0
  rw [e14, e13]
  by_cases q : S.1 14 = 0
  · rw [if_pos q, if_pos q]
    by_cases q1 : f_isTask t = 0
    · rw [if_pos q1, if_pos q1]; exact h
    · rw [if_neg q1, if_neg q1]
      by_cases q2 : i < 0
      · rw [if_pos q2, if_pos q2]; exact h
      · rw [if_neg q2, if_neg q2]
        by_cases q3 : S.2 13 (ix t) < i
        · rw [if_pos q3, if_pos q3]; exact h
        · rw [if_neg q3, if_neg q3]
          by_cases q4 : i < 32
          · rw [if_pos q4, if_pos q4]
            have h12 := h.a12 q (ix (32 * t + i)) w
            unfold f_program1
            have f1 : (xa T 12 (ix (32 * t + i)) w).2 13 = S.2 13 := e13
            have f2 : (xa S 12 (ix (32 * t + i)) w).2 13 = S.2 13 := rfl
            rw [f1, f2]
            by_cases q5 : i = S.2 13 (ix t)
            · rw [if_pos q5, if_pos q5, ← q5]
              obtain ⟨j, j1, rfl⟩ := nI_of q2
              rw [show (32 : Int32) = nI 32 from rfl, nI_ltI j1 (by decide)] at q4
              rw [nI_1]
              exact h12.a13 q _ _ (by omega)
            · rw [if_neg q5, if_neg q5]; exact h12
          · rw [if_neg q4, if_neg q4]; exact h
  · rw [if_neg q, if_neg q]; exact h
theorem R.program {c : Nat} {T S : XS} (h : R c T S) (t i w : Int32) : f_programR0 T t i = f_programR S t i ∧ R c (f_program0 T t i w) (f_program S t i w) := (h.s19 0).program0 t i w
/-! the seal -/
theorem op_case (w : Int32) : (f_op w = 0 ∨ f_op w = 1 ∨ f_op w = 2 ∨ f_op w = 3 ∨ f_op w = 4 ∨ f_op w = 5 ∨ f_op w = 6 ∨ f_op w = 7 ∨ f_op w = 8 ∨ f_op w = 9 ∨ f_op w = 10 ∨ f_op w = 11 ∨ f_op w = 12 ∨ f_op w = 13 ∨ f_op w = 14 ∨ f_op w = 15 ∨ f_op w = 16 ∨ f_op w = 17) ∨ 17 < (f_op w).toInt := by
  obtain ⟨j, j1, j2⟩ := f_op_nn w
  rw [j2, nI_toInt (by omega)]
  by_cases q : 17 < j
  · exact Or.inr (by omega)
  · refine Or.inl ?_
    exact (by decide +kernel : ∀ j : Fin 18, nI j.val = 0 ∨ nI j.val = 1 ∨ nI j.val = 2 ∨ nI j.val = 3 ∨ nI j.val = 4 ∨ nI j.val = 5 ∨ nI j.val = 6 ∨ nI j.val = 7 ∨ nI j.val = 8 ∨ nI j.val = 9 ∨ nI j.val = 10 ∨ nI j.val = 11 ∨ nI j.val = 12 ∨ nI j.val = 13 ∨ nI j.val = 14 ∨ nI j.val = 15 ∨ nI j.val = 16 ∨ nI j.val = 17) ⟨j, by omega⟩
theorem reg_if (x : Int32) {α : Type} (a b : α) : (if g_reg x = 0 then a else b) = if 8 ≤ x then a else b := by
  unfold g_reg
  by_cases q : 8 ≤ x
  · rw [if_pos q, if_pos q, if_pos rfl]
  · rw [if_neg q, if_neg q, if_neg (by decide)]
theorem task_if {x : Int32} (hx : ∃ j : Nat, j < 256 ∧ x = nI j) {α : Type} (a b : α) : (if f_isTask x = 0 then a else b) = if 16 ≤ x then a else b := by
  obtain ⟨j, j1, rfl⟩ := hx
  have n : ¬ nI j < 0 := by rw [show (0 : Int32) = nI 0 from rfl, nI_ltI (by omega) (by decide)]; omega
  unfold f_isTask
  rw [if_neg n]
  by_cases q : (16 : Int32) ≤ nI j
  · rw [if_pos q, if_pos q, if_pos rfl]
  · rw [if_neg q, if_neg q, if_neg (by decide)]
theorem good_W (sz : Nat → Int32) (n w : Int32) (p : Prop) [Decidable p] : h_goodW sz n w (if p then 1 else 0) = if p then (if f_op w = 0 then f_rightW sz n w else if f_op w = 7 then f_rightW sz n w else 0) else f_rightW sz n w := by
  have ta := task_if (f_a_nn w) (0 : Int32)
  have e1 : ((1 : Int32) = 1) = True := eq_true rfl
  have e0 : ((0 : Int32) = 1) = False := eq_false (by decide)
  rcases op_case w with q | q
  · unfold h_goodW f_rightW
    by_cases hp : p
    · rw [if_pos hp, if_pos hp]
      rcases q with e | e | e | e | e | e | e | e | e | e | e | e | e | e | e | e | e | e <;> simp (decide := true) only [e, if_true, if_false, reg_if, ta]
    · rw [if_neg hp, if_neg hp]
      rcases q with e | e | e | e | e | e | e | e | e | e | e | e | e | e | e | e | e | e <;> simp (decide := true) only [e, if_true, if_false, reg_if, ta]
      all_goals (by_cases q1 : 8 ≤ f_c w <;> by_cases q2 : 4 ≤ f_b w <;> simp only [q1, q2, if_true, if_false])
  · have z : f_rightW sz n w = 0 := by
      by_cases zz : f_rightW sz n w = 0
      · exact zz
      · have := (vp_in_iff.mp (w_op ⟨sz, n, zz⟩)).2
        omega
    rw [h_good_out (Or.inr q), z]
    simp only [ite_self]
theorem good_right {S : XS} {t i z : Nat} (ht : t < 16) (hz : z ≤ 32) (ez : S.2 13 t = nI z) (hi : i < z) : h_good (S.2 12) (S.2 13) (nI t) (nI i) = f_right S (nI t) (nI i) := by
  have et : ix (nI t) = t := nI_clamp (by omega)
  unfold h_good f_right f_right0
  rw [et, ez, good_W]
  have e : (nI i = nI z - 1) ↔ (nI i + 1 = nI z) := by
    rw [nI_1, show (1 : Int32) = nI 1 from rfl, pk_sub (by omega), nI_eq (by omega) (by omega), nI_eq (by omega) (by omega)]
    omega
  by_cases q : nI i + 1 = nI z
  · rw [if_pos q, if_pos (e.mpr q)]
  · rw [if_neg q, if_neg (fun w => q (e.mp w))]
theorem sealI_eq {S : XS} {t z : Nat} (ht : t < 16) (hz : z ≤ 32) (ez : S.2 13 t = nI z) : ∀ (n i : Nat), i + n ≤ z → h_sealI (S.2 12) (S.2 13) t n i = f_sealI S t n i
  | 0, _, _ => rfl
  | n + 1, i, h => by
    unfold h_sealI f_sealI
    rw [good_right ht hz ez (by omega), sealI_eq ht hz ez n (i + 1) (by omega)]
theorem sealI_0 {S : XS} {t : Nat} (ht : t < 16) : ∀ (n i : Nat), i + n ≤ 32 → f_sealI S t n i = 0 → ∀ k, i ≤ k → k < i + n → ¬ f_right S (nI t) (nI k) = 0
  | 0, _, _, _ => fun k h1 h2 => absurd h2 (by omega)
  | n + 1, i, h, e => fun k h1 h2 => by
    unfold f_sealI at e
    by_cases q : f_right S (nI t) (nI i) = 0
    · rw [if_pos q, show (1 : Int32) = nI 1 from rfl, show (32 : Int32) = nI 32 from rfl, pk_mul, nI_add, nI_add, show (0 : Int32) = nI 0 from rfl, nI_eq (by omega) (by decide)] at e
      omega
    · rw [if_neg q] at e
      by_cases ck : k = i
      · rw [ck]; exact q
      · exact sealI_0 ht n (i + 1) (by omega) e k (by omega) (by omega)
theorem sealT_eq {S : XS} (hs : szOk S) : ∀ (n t : Nat), t + n ≤ 16 → 0 < t ∨ ¬ S.2 13 t = 0 → h_sealT (S.2 12) (S.2 13) n t = f_sealT S n t
  | 0, _, _, _ => rfl
  | n + 1, t, h, h0 => by
    obtain ⟨z, z1, z2⟩ := hs t (by omega)
    have ez : ix (S.2 13 t) = z := by rw [z2]; exact nI_clamp (by omega)
    unfold h_sealT f_sealT
    rw [ez, sealI_eq (by omega) z1 z2 z 0 (by omega), sealT_eq hs n (t + 1) (by omega) (Or.inl (by omega))]
    by_cases q : t = 0
    · have nz : ¬ S.2 13 t = 0 := by rcases h0 with u | u; omega; exact u
      rw [if_pos q, if_neg nz]
    · rw [if_neg q]
theorem sealT_0 {S : XS} (hs : szOk S) : ∀ (n t : Nat), t + n ≤ 16 → f_sealT S n t = 0 → ∀ k, t ≤ k → k < t + n → ∀ i, i < ix (S.2 13 k) → ¬ f_right S (nI k) (nI i) = 0
  | 0, _, _, _ => fun k h1 h2 => absurd h2 (by omega)
  | n + 1, t, h, e => fun k h1 h2 i hi => by
    obtain ⟨z, z1, z2⟩ := hs t (by omega)
    have ez : ix (S.2 13 t) = z := by rw [z2]; exact nI_clamp (by omega)
    unfold f_sealT at e
    by_cases q : f_sealI S t (ix (S.2 13 t)) 0 = 0
    · rw [if_pos q] at e
      by_cases ck : k = t
      · rw [ck] at hi ⊢
        exact sealI_0 (by omega) (ix (S.2 13 t)) 0 (by omega) q i (by omega) (by omega)
      · exact sealT_0 hs n (t + 1) (by omega) e k (by omega) (by omega) i hi
    · rw [if_neg q] at e
      exact absurd e q
theorem R.seal0 {c : Nat} {T S : XS} (h : R c T S) : h_sealR (T.2 12) (T.2 13) T = f_sealR0 S ∧ R c (h_seal (T.2 12) (T.2 13) T) (f_seal0 S) := by
  have e12 : T.2 12 = S.2 12 := h.1.1 12 (by decide)
  have e13 : T.2 13 = S.2 13 := h.1.1 13 (by decide)
  have hs : szOk S := h.1.2.2.2.1
  unfold h_sealR f_sealR0 h_seal f_seal0
  rw [h.e14, e12, e13]
  by_cases q : S.1 14 = 0
  · rw [if_pos q, if_pos q, if_pos q, if_pos q]
    by_cases z : S.2 13 0 = 0
    · have e1 : h_sealT (S.2 12) (S.2 13) 16 0 = 1 := by
        unfold h_sealT
        rw [if_pos rfl, if_pos z]
      rw [e1, if_pos z, if_pos z, if_neg (by decide)]
      exact ⟨rfl, h⟩
    · rw [sealT_eq hs 16 0 (by omega) (Or.inr z), if_neg z, if_neg z]
      refine ⟨rfl, ?_⟩
      by_cases e : f_sealT S 16 0 = 0
      · rw [if_pos e, if_pos e]
        obtain ⟨⟨b1, b2, b3, b4, b5, b6, b7, b8, b9⟩, hp⟩ := h
        have ag := Ag.s (⟨b1, b2⟩ : Ag T S) 14 1
        refine ⟨⟨ag.1, ag.2, b3, b4, b5, b6, b7, b8, b9⟩, Or.inr ⟨s1s _ _ _, ?_, Or.inl ?_⟩⟩
        · exact fun t i ht hi => sealT_0 hs 16 0 (by omega) e t (by omega) (by omega) i hi
        · rcases hp with ⟨_, a, b, d, k⟩ | w
          · refine ⟨a, b, d, Or.inl ⟨k 2, ⟨0, by omega, k 0, z⟩, fun b hb => ⟨0, 0, by omega, by omega, k _, k _⟩, 0, 0, k 4, k 3, by omega, by omega, by omega⟩⟩
          · exact absurd (q.symm.trans w.1) (by decide)
      · rw [if_neg e, if_neg e]; exact h
  · rw [if_neg q, if_neg q, if_neg q, if_neg q]
    exact ⟨rfl, h⟩
theorem R.seal {c : Nat} {T S : XS} (h : R c T S) : h_sealR (T.2 12) (T.2 13) T = f_sealR S ∧ R c (h_seal (T.2 12) (T.2 13) T) (f_seal S) := (h.s19 0).seal0
