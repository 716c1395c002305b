/-! THE PLAIN LAW, ninth part: a step of an attempt -/
set_option maxRecDepth 100000
theorem Ag.leave {T S : XS} (h : Ag T S) : Ag (g_leave T) (f_leave S) := by
  unfold g_leave f_leave
  have h1 : Ag (xs T 17 7) (xs S 18 2) := (h.sl 7 (by omega)).sr 2 (by omega)
  exact (h1.s 7 0).end_
theorem leave_at (T S : XS) : (∀ j, j ≠ 4 → (f_leave S).2 j = S.2 j) ∧ Idle (f_leave S) ∧ (f_leave S).1 18 = 2 ∧ (f_leave S).1 7 = 0 ∧ (∀ i, i ≠ 2 → i ≠ 7 → i ≠ 9 → i ≠ 10 → i ≠ 11 → i ≠ 12 → i ≠ 18 → (f_leave S).1 i = S.1 i) ∧ (g_leave T).1 17 = 7 ∧ (g_leave T).1 15 = T.1 15 ∧ (g_leave T).1 16 = T.1 16 := by
  unfold f_leave g_leave
  obtain ⟨e1, e2, e3, e4, e5, e6, e7⟩ := end_at (xs (xs S 18 2) 7 0)
  obtain ⟨g1, g2, g3, g4⟩ := gclear_at (xs (xs T 17 7) 7 0)
  refine ⟨e1, ⟨e2, e3⟩, ?_, ?_, fun i a b c d e f g => ?_, ?_, ?_, ?_⟩
  · rw [e7 18 (by decide) (by decide) (by decide) (by decide) (by decide), s1n _ _ (by decide), s1s]
  · rw [e7 7 (by decide) (by decide) (by decide) (by decide) (by decide), s1s]
  · rw [e7 i a c d e f, s1n _ _ b, s1n _ _ g]
  · rw [g4 17 (by decide) (by decide), s1n _ _ (by decide), s1s]
  · rw [g4 15 (by decide) (by decide), s1n _ _ (by decide), s1n _ _ (by decide)]
  · rw [g4 16 (by decide) (by decide), s1n _ _ (by decide), s1n _ _ (by decide)]
/-- leaving an attempt: both sides on the air -/
theorem leave_sim {c : Nat} {T S : XS} (hb : Base c T S) (hr : allR S) (h2 : S.2 0 2 = 0) (hk : kOK c (S.2 13) (S.2 0)) : Sim c (g_leave T) (f_leave S) := by
  obtain ⟨b1, b2, b3, b4, ⟨hd, s, d1, d2, d3, d4, d5, d6⟩, b6, b7, b8, b9⟩ := hb
  obtain ⟨l1, l2, l3, l4, l5, l6, l7, l8⟩ := leave_at T S
  have ag : Ag (g_leave T) (f_leave S) := Ag.leave ⟨b1, b2⟩
  have k0 := l1 0 (by decide)
  have k13 := l1 13 (by decide)
  refine ⟨⟨ag.1, ag.2, by rw [l7]; exact b3, b4.congr k13, ⟨hd, s, by rw [k0]; exact d1, d2, by rw [l8]; exact d3, by rw [l1 11 (by decide)]; exact d4, d5, Or.inl l4⟩, by rw [l1 6 (by decide)]; exact b6, ⟨0, by rw [l2.2]; rfl, by omega⟩, by rw [l5 13 (by decide) (by decide) (by decide) (by decide) (by decide) (by decide) (by decide)]; exact b8, by rw [k0]; exact b9⟩, hr.congr (l1 12 (by decide)) k13, Or.inr (Or.inr (Or.inl ⟨l3, l6, l2, by rw [k0]; exact h2, by rw [k0, k13]; exact hk, fun z => absurd (l4.symm.trans z) (by decide)⟩))⟩
/-- a commit begins: its entries -/
theorem com_ent {c p : Nat} {S : XS} {x y : Int32} {j : Nat} (hd : PD S p) (hp : p ≤ 38) (hk : kOK c (S.2 13) (view S)) (hj : j < 16) (ex : x = nI j) (hz : ¬ S.2 13 j = 0) : Ent c (S.2 13) (S.2 0) (upd (upd (S.2 2) p 0) (p + 1) 1) (upd (upd (S.2 3) p x) (p + 1) y) (p + 2) := by
  obtain ⟨h1, h2, h3⟩ := hd
  have w0 : ∀ e, e < p → upd (upd (S.2 2) p 0) (p + 1) 1 e = S.2 2 e := fun e he => by rw [pk_un (by omega), pk_un (by omega)]
  have v0 : ∀ e, e < p → upd (upd (S.2 3) p x) (p + 1) y e = S.2 3 e := fun e he => by rw [pk_un (by omega), pk_un (by omega)]
  have wp : upd (upd (S.2 2) p 0) (p + 1) 1 p = nI 0 := by rw [pk_un (by omega), pk_us]; rfl
  have wp1 : upd (upd (S.2 2) p 0) (p + 1) 1 (p + 1) = nI 1 := by rw [pk_us]; rfl
  have num : ∀ e, e < p + 2 → ∃ a, adrC a ∧ upd (upd (S.2 2) p 0) (p + 1) 1 e = nI a ∧ (e < p → adr a) ∧ (e = p → a = 0) ∧ (e = p + 1 → a = 1) := by
    intro e he
    rcases (show e < p ∨ e = p ∨ e = p + 1 by omega) with q | q | q
    · obtain ⟨a, a1, a2⟩ := h2 e q
      exact ⟨a, Or.inr (Or.inr a1), by rw [w0 e q]; exact a2, fun _ => a1, fun z => by omega, fun z => by omega⟩
    · exact ⟨0, Or.inl rfl, by rw [q]; exact wp, fun z => by omega, fun _ => rfl, fun z => by omega⟩
    · exact ⟨1, Or.inr (Or.inl rfl), by rw [q]; exact wp1, fun z => by omega, fun z => by omega, fun _ => rfl⟩
  have dist : ∀ e e', e < p + 2 → e' < p + 2 → upd (upd (S.2 2) p 0) (p + 1) 1 e = upd (upd (S.2 2) p 0) (p + 1) 1 e' → e = e' := by
    intro e e' he he' z
    obtain ⟨a, a1, a2, a3, a4, a5⟩ := num e he
    obtain ⟨b, b1, b2, b3, b4, b5⟩ := num e' he'
    have al := a1.lt
    have bl := b1.lt
    have hab : a = b := by rw [a2, b2] at z; exact (nI_eq (by omega) (by omega)).mp z
    rcases (show e < p ∨ e = p ∨ e = p + 1 by omega) with q | q | q <;> rcases (show e' < p ∨ e' = p ∨ e' = p + 1 by omega) with q' | q' | q'
    · rw [w0 e q, w0 e' q'] at z; exact h3 e e' q q' z
    · have := a3 q; have := b4 q'; rcases a3 q with u | u <;> omega
    · have := a3 q; have := b5 q'; rcases a3 q with u | u <;> omega
    · have := b3 q'; have := a4 q; rcases b3 q' with u | u <;> omega
    · omega
    · have := a4 q; have := b5 q'; omega
    · have := b3 q'; have := a5 q; rcases b3 q' with u | u <;> omega
    · have := a5 q; have := b4 q'; omega
    · omega
  refine ⟨fun e he => by obtain ⟨a, a1, a2, _⟩ := num e he; exact ⟨a, a1, a2⟩, dist, ?_⟩
  have hv : ∀ a, a < 84 → a ≠ 0 → a ≠ 1 → fv (S.2 0) (upd (upd (S.2 2) p 0) (p + 1) 1) (upd (upd (S.2 3) p x) (p + 1) y) (p + 2) (nI a) = view S a := by
    intro a ha a0 a1
    unfold view
    rw [see_fv h1 (by omega)]
    rcases fv_cases (w := S.2 0) (wt := upd (upd (S.2 3) p x) (p + 1) y) (n := p + 2) (by omega) dist (nI a) with ⟨e, he, e1, e2⟩ | ⟨e1, e2⟩
    · have hep : e < p := by
        rcases (show e < p ∨ e = p ∨ e = p + 1 by omega) with q | q | q
        · exact q
        · rw [q, wp, nI_eq (by omega) (by omega)] at e1; omega
        · rw [q, wp1, nI_eq (by omega) (by omega)] at e1; omega
      rw [e2, v0 e hep]
      rw [w0 e hep] at e1
      rw [← e1]
      exact (fv_in (by omega) h3 hep).symm
    · rw [e2]
      exact (fv_out (by omega) (fun e he z => e1 e (by omega) (by rw [w0 e he]; exact z))).symm
  have hv0 : fv (S.2 0) (upd (upd (S.2 2) p 0) (p + 1) 1) (upd (upd (S.2 3) p x) (p + 1) y) (p + 2) (nI 0) = nI j := by
    rw [← wp, fv_in (by omega) dist (by omega), pk_un (by omega), pk_us, ex]
  obtain ⟨_, k2, s, n, k3, k4, k5⟩ := hk
  refine ⟨⟨j, hj, hv0, hz⟩, fun b hb => ?_, s, n, (hv 4 (by omega) (by omega) (by omega)).trans k3, (hv 3 (by omega) (by omega) (by omega)).trans k4, k5⟩
  obtain ⟨f, m, q1, q2, q3, q4⟩ := k2 b hb
  exact ⟨f, m, q1, q2, (hv _ (by omega) (by omega) (by omega)).trans q3, (hv _ (by omega) (by omega) (by omega)).trans q4⟩
theorem PD.no {S : XS} {p a : Nat} (h : PD S p) (hp : p ≤ 38) (ha : a < 3) : f_place S (nI a) = -1 := by
  rw [place_find h.1 (by omega), find_none (by omega)]
  intro e _ he z
  obtain ⟨b, b1, b2⟩ := h.2.1 e (by omega)
  have hb : b < 84 := by rcases b1 with u | u <;> omega
  rw [b2, nI_eq (by omega) (by omega)] at z
  rcases b1 with u | u <;> omega
/-- the component's entries for task and commits -/
theorem cbegin_eq {S : XS} {p : Nat} {x : Int32} (h : PD S p) (hp : p ≤ 38) : g_cbegin S x = xs (xs (xa (xa (xs (xa (xa (xs S 12 (nI (p + 1))) 2 p 0) 3 p x) 12 (nI (p + 2))) 2 (p + 1) 1) 3 (p + 1) (S.2 0 1 + 1)) 11 0) 17 9 := by
  have ep : ix (S.1 12) = p := by rw [h.1]; exact nI_clamp (by omega)
  have e1 : f_put S 0 x = xa (xa (xs S 12 (nI (p + 1))) 2 p 0) 3 p x := by
    unfold f_put
    rw [if_pos (show f_place S 0 = -1 from h.no hp (a := 0) (by omega)), ep, h.1, nI_1]
  have e2 : f_place (f_put S 0 x) 1 = -1 := by
    have hq : (f_put S 0 x).1 12 = nI (p + 1) := by rw [e1]; rfl
    have hw : (f_put S 0 x).2 2 = upd (S.2 2) p 0 := by rw [e1]; rfl
    rw [place_find hq (by omega), find_none (by omega), hw]
    intro e _ he z
    by_cases c : e = p
    · rw [c, pk_us] at z; exact absurd z (by decide)
    · rw [pk_un c] at z
      obtain ⟨b, b1, b2⟩ := h.2.1 e (by omega)
      have hb : b < 84 := by rcases b1 with u | u <;> omega
      rw [b2, show (1 : Int32) = nI 1 from rfl, nI_eq (by omega) (by omega)] at z
      rcases b1 with u | u <;> omega
  unfold g_cbegin g_cb2
  have e3 : f_put (f_put S 0 x) 1 ((f_put S 0 x).2 0 1 + 1) = xa (xa (xs (f_put S 0 x) 12 (nI (p + 2))) 2 (p + 1) 1) 3 (p + 1) (S.2 0 1 + 1) := by
    have hq : (f_put S 0 x).1 12 = nI (p + 1) := by rw [e1]; rfl
    have h0 : (f_put S 0 x).2 0 = S.2 0 := by rw [e1]; rfl
    rw [h0]
    show (if f_place (f_put S 0 x) 1 = -1 then _ else _) = _
    rw [if_pos e2, hq, nI_1, show ix (nI (p + 1)) = p + 1 from nI_clamp (by omega)]
  rw [e3, e1]
