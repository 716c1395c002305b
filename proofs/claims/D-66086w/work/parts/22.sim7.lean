/-! THE PLAIN LAW, seventh part: paying; the steps of replay and air -/
set_option maxRecDepth 100000
theorem Base.mono {c c' : Nat} {T S : XS} (h : Base c T S) (hc : c ≤ c') : Base c' T S := by
  obtain ⟨b1, b2, b3, b4, ⟨hd, s, d1, d2, d3, d4, d5, d6⟩, b6, ⟨x, x1, x2⟩, ⟨y, y1, y2⟩, b9⟩ := h
  refine ⟨b1, b2, b3, b4, ⟨hd, s, d1, d2, d3, d4, by omega, d6⟩, fun t ht => ?_, ⟨x, x1, by omega⟩, ⟨y, y1, by omega⟩, b9⟩
  obtain ⟨z, z1, z2⟩ := b6 t ht
  exact ⟨z, z1, by omega⟩
theorem MarkOK.mono {c c' : Nat} {sz kp : Nat → Int32} {n : Nat} (h : MarkOK c sz kp n) (hc : c ≤ c') : MarkOK c' sz kp n := ⟨h.1, h.2.1, h.2.2.1, h.2.2.2.mono hc⟩
theorem pRep.mono {c c' : Nat} {T S : XS} (h : pRep c T S) (hc : c ≤ c') : pRep c' T S := by
  obtain ⟨h1, h2, h3, h4, n, i, h5, h6⟩ := h
  exact ⟨h1, h2, h3, h4, n, i, h5.mono hc, h6⟩
theorem pOff.mono {c c' : Nat} {T S : XS} (h : pOff c T S) (hc : c ≤ c') : pOff c' T S := by
  obtain ⟨h1, h2, h3, h4⟩ := h
  refine ⟨h1, h2, h3, ?_⟩
  rcases h4 with ⟨a, b⟩ | ⟨n, a⟩
  · exact Or.inl ⟨a, b.mono hc⟩
  · exact Or.inr ⟨n, a.mono hc⟩
theorem pAir.mono {c c' : Nat} {T S : XS} (h : pAir c T S) (hc : c ≤ c') : pAir c' T S := ⟨h.1, h.2.1, h.2.2.1, h.2.2.2.1, h.2.2.2.2.1.mono hc, h.2.2.2.2.2⟩
theorem pRun.mono {c c' : Nat} {T S : XS} (h : pRun c T S) (hc : c ≤ c') : pRun c' T S := by
  obtain ⟨h1, h2, h3, h4, h5, h6, h7, h8, h9, h10, h11⟩ := h
  exact ⟨h1, h2, h3, h4, h5, h6, h7, h8, h9.mono hc, h10.mono hc, h11⟩
theorem pCom.mono {c c' : Nat} {T S : XS} (h : pCom c T S) (hc : c ≤ c') : pCom c' T S := by
  obtain ⟨h1, h2, h3, p, k, p1, p2, p3, p4, p5, p6, p7, p8, p9, p10⟩ := h
  exact ⟨h1, h2, h3, p, k, p1, p2, p3, p4, p5, p6, p7.mono hc, p8, fun q => ⟨(p9 q).1, (p9 q).2.1.mono hc, (p9 q).2.2⟩, p10⟩
theorem Phase.mono {c c' : Nat} {T S : XS} (h : Phase c T S) (hc : c ≤ c') : Phase c' T S := by
  rcases h with h | h | h | h | h
  · exact Or.inl (h.mono hc)
  · exact Or.inr (Or.inl (h.mono hc))
  · exact Or.inr (Or.inr (Or.inl (h.mono hc)))
  · exact Or.inr (Or.inr (Or.inr (Or.inl (h.mono hc))))
  · exact Or.inr (Or.inr (Or.inr (Or.inr (h.mono hc))))
theorem Sim.mono {c c' : Nat} {T S : XS} (h : Sim c T S) (hc : c ≤ c') : Sim c' T S := ⟨h.1.mono hc, h.2.1, h.2.2.mono hc⟩
/-- the state behind a cost -/
def paid (S : XS) (e y : Int32) : XS := xs (xs S 0 e) 2 y
theorem paid_n (S : XS) (e y : Int32) {i : Nat} (h0 : i ≠ 0) (h2 : i ≠ 2) : (paid S e y).1 i = S.1 i := by
  unfold paid
  rw [s1n _ _ h2, s1n _ _ h0]
theorem i_add0 (x : Int32) : x + 0 = x := by simp
theorem fpays_eq {S : XS} {k : Int32} (h : k ≤ S.1 0) : f_pays S k = paid S (S.1 0 - k) (S.1 2 + (if S.1 18 = 3 ∨ S.1 18 = 4 then k else 0)) := by
  unfold f_pays f_spend paid
  rw [if_pos h, show (xs S 0 (S.1 0 - k)).1 18 = S.1 18 from rfl, show (xs S 0 (S.1 0 - k)).1 2 = S.1 2 from rfl]
  by_cases c3 : S.1 18 = 3
  · rw [if_pos c3, if_pos (Or.inl c3)]
  · rw [if_neg c3]
    by_cases c4 : S.1 18 = 4
    · rw [if_pos c4, if_pos (Or.inr c4)]
    · rw [if_neg c4, if_neg (by rintro (z | z); exact c3 z; exact c4 z), i_add0]
      exact (xs_id (xs S 0 (S.1 0 - k)) 2).symm
theorem gpay_eq (T : XS) (k : Int32) : g_pay T k = paid T (T.1 0 - k) (T.1 2 + (if T.1 17 = 8 ∨ T.1 17 = 9 then k else 0)) := by
  unfold g_pay g_pay2 paid g_try
  rw [show (xs T 0 (T.1 0 - k)).1 17 = T.1 17 from rfl, show (xs T 0 (T.1 0 - k)).1 2 = T.1 2 from rfl]
  by_cases c8 : T.1 17 = 8
  · rw [if_pos c8, if_pos (Or.inl c8), if_neg (by decide)]
  · rw [if_neg c8]
    by_cases c9 : T.1 17 = 9
    · rw [if_pos c9, if_pos (Or.inr c9), if_neg (by decide)]
    · have h89 : ¬ (T.1 17 = 8 ∨ T.1 17 = 9) := by
        rintro (z | z)
        · exact c8 z
        · exact c9 z
      rw [if_neg c9, if_neg h89, if_pos rfl]
theorem Base.paid_ {c : Nat} {T S : XS} (h : Base c T S) (e : Int32) {y : Int32} (hy : ∃ x, y = nI x ∧ x ≤ 10 * (c + 1)) : Base (c + 1) (paid T e y) (paid S e y) := by
  obtain ⟨b1, b2, b3, b4, b5, b6, b7, b8, b9⟩ := h.mono (Nat.le_succ c)
  have ag : Ag (paid T e y) (paid S e y) := (Ag.s ⟨b1, b2⟩ 0 e).s 2 y
  obtain ⟨x, x1, x2⟩ := hy
  exact ⟨ag.1, ag.2, b3, b4, b5, b6, ⟨x, x1, x2⟩, b8, b9⟩
/-- a step of the replay -/
theorem rep_sim {c : Nat} {T S : XS} (hb : Base c T S) (hr : allR S) (hp : pRep c T S) : Sim c (g_rep T) (f_rep S) ∧ repOk S ∧ repOk T ∧ (f_rep S).1 5 = S.1 5 ∧ (f_rep S).1 3 = S.1 3 ∧ ¬ (f_rep S).1 18 = 0 := by
  obtain ⟨b1, b2, b3, b4, ⟨hd, s, d1, d2, d3, d4, d5, d6⟩, b6, b7, b8, b9⟩ := hb
  obtain ⟨h1, h2, h3, h4, n, i, hm, hi, h8, ha⟩ := hp
  obtain ⟨n1, n2, n3, n4⟩ := hm
  have e0 : T.2 0 = S.2 0 := b1 0 (by decide)
  have e8 : T.1 8 = S.1 8 := b2 8 (by omega)
  have x1 : ∀ k, k ≤ 40 → (84 + 2 * nI k : Int32) = nI (84 + 2 * k) := fun k hk => by
    rw [show (2 : Int32) = nI 2 from rfl, pk_mul, show (84 : Int32) = nI 84 from rfl, nI_add]
  have hrep : repOk S := by
    intro hlt
    rw [h8, n3, nI_ltI (by omega) (by omega)] at hlt
    rw [h8, x1 i (by omega), nI_1]
    refine ⟨vp_in_nI (by omega) (by decide), vp_in_nI (by omega) (by decide), ?_⟩
    rw [nI_clamp (by omega)]
    obtain ⟨a, a1, a2⟩ := n4.1 i hlt
    rw [show S.2 0 (84 + 2 * i) = nI a from a2]
    exact vp_in_nI (by have := a1.lt; omega) (by decide)
  have hrepT : repOk T := by
    unfold repOk
    rw [e8, e0]
    exact hrep
  by_cases cc : S.2 0 2 ≤ S.1 8
  · -- all is applied: the mark goes
    have hin : i = n := by
      rw [h8, n3, nI_leI (by omega) (by omega)] at cc
      omega
    subst hin
    have eS : f_rep S = xs (xs (f_write S 2 0) 18 2) 7 0 := if_pos cc
    have eT : g_rep T = xs (f_write T 2 0) 17 7 := if_pos (by rw [e8, e0]; exact cc)
    have k0 : (f_rep S).2 0 = upd (S.2 0) 2 0 := by rw [eS]; rfl
    have kk : kOK c (S.2 13) (S.2 0) := n4.done (by omega) ha
    have ko : kOK c (S.2 13) (upd (S.2 0) 2 0) := kk.congr (pk_un (by decide)) (pk_un (by decide)) (pk_un (by decide)) (fun b hb => ⟨pk_un (by omega), pk_un (by omega)⟩)
    have ag : Ag (f_write T 2 0) (f_write S 2 0) := by
      unfold f_write
      rw [b1 1 (by decide)]
      exact (Ag.a ⟨b1, b2⟩ _ _ _).a _ _ _
    have ag2 : Ag (g_rep T) (f_rep S) := by
      rw [eS, eT]
      refine ⟨ag.1, fun i hi => ?_⟩
      by_cases c7 : i = 7
      · rw [c7, s1s, s1n _ _ (by decide)]
        show T.1 7 = 0
        rw [b2 7 (by omega)]; exact h4
      · rw [s1n _ _ c7, s1n _ _ (by omega), s1n _ _ (by omega)]
        exact ag.2 i hi
    have d4' : ∀ j, j < 64 → (f_rep S).2 11 j = far hd j := fun j hj => by rw [eS]; exact d4 j hj
    refine ⟨⟨⟨ag2.1, ag2.2, by rw [eT]; exact b3, by rw [eS]; exact b4, ⟨hd, s, by rw [k0, pk_un (by decide)]; exact d1, d2, by rw [eT]; exact d3, d4', d5, Or.inl (by rw [eS]; rfl)⟩, by rw [eS]; exact b6, by rw [eS]; exact b7, by rw [eS]; exact b8, by rw [k0, pk_un (by decide)]; exact b9⟩, hr.congr (by rw [eS]; rfl) (by rw [eS]; rfl), Or.inr (Or.inr (Or.inl ⟨by rw [eS]; rfl, by rw [eT]; rfl, by rw [eS]; exact h3, by rw [k0]; rfl, ?_, ?_⟩))⟩, hrep, hrepT, by rw [eS]; rfl, by rw [eS]; rfl, by rw [eS]; show ¬ (2 : Int32) = 0; decide⟩
    · rw [k0]
      have : (f_rep S).2 13 = S.2 13 := by rw [eS]; rfl
      rw [this]; exact ko
    · intro z
      rw [eS] at z
      exact absurd (show (0 : Int32) = 1 from z) (by decide)
  · -- an entry is applied again
    have hlt : i < n := by
      rw [h8, n3, nI_leI (by omega) (by omega)] at cc
      omega
    have ei : ix (84 + 2 * S.1 8) = 84 + 2 * i := by rw [h8, x1 i (by omega)]; exact nI_clamp (by omega)
    have ei1 : ix (84 + 2 * S.1 8 + 1) = 84 + 2 * i + 1 := by rw [h8, x1 i (by omega), nI_1]; exact nI_clamp (by omega)
    have eS : f_rep S = xs (f_write S (lw_ (S.2 0) i) (lv_ (S.2 0) i)) 8 (nI (i + 1)) := by
      unfold f_rep
      rw [if_neg cc, ei, ei1]
      show xs _ 8 (S.1 8 + 1) = _
      rw [h8, nI_1]
    have eT : g_rep T = xs (f_write T (lw_ (S.2 0) i) (lv_ (S.2 0) i)) 8 (nI (i + 1)) := by
      unfold g_rep
      rw [e8, e0, if_neg cc, ei, ei1]
      show xs _ 8 (T.1 8 + 1) = _
      rw [e8, h8, nI_1]
    have ag : Ag (g_rep T) (f_rep S) := by
      rw [eS, eT]
      unfold f_write
      rw [b1 1 (by decide)]
      exact ((Ag.a ⟨b1, b2⟩ _ _ _).a _ _ _).s _ _
    have k0 : (f_rep S).2 0 = upd (S.2 0) (ix (lw_ (S.2 0) i)) (lv_ (S.2 0) i) := by rw [eS]; rfl
    obtain ⟨m1, m2⟩ := Mark.write ⟨n1, n2, n3, n4⟩ ha hlt
    obtain ⟨a, a1, a2⟩ := n4.1 i hlt
    have al := a1.lt
    have ea : ix (lw_ (S.2 0) i) = a := by rw [a2]; exact nI_clamp (by omega)
    refine ⟨⟨⟨ag.1, ag.2, by rw [eT]; exact b3, by rw [eS]; exact b4, ⟨hd, s, by rw [k0, ea, pk_un (by omega)]; exact d1, d2, by rw [eT]; exact d3, by rw [eS]; exact d4, d5, Or.inl (by rw [eS]; exact h4)⟩, by rw [eS]; exact b6, by rw [eS]; exact b7, by rw [eS]; exact b8, ?_⟩, hr.congr (by rw [eS]; rfl) (by rw [eS]; rfl), Or.inr (Or.inl ⟨by rw [eS]; exact h1, by rw [eT]; exact h2, by rw [eS]; exact h3, by rw [eS]; exact h4, n, i + 1, ?_, by omega, by rw [eS]; rfl, ?_⟩)⟩, hrep, hrepT, by rw [eS]; rfl, by rw [eS]; rfl, by rw [eS]; show ¬ S.1 18 = 0; rw [h1]; decide⟩
    · rw [k0]
      exact n4.task (by omega) hlt b9
    · rw [k0, show (f_rep S).2 13 = S.2 13 by rw [eS]; rfl]
      exact m1
    · rw [k0]; exact m2
