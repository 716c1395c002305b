/-! THE PLAIN LAW, third part: what an attempt keeps right -/
set_option maxRecDepth 100000
/-- a row of kept words is good: its task, its queues, its frames -/
def kOK (c : Nat) (sz w : Nat → Int32) : Prop := (∃ t, t < 16 ∧ w 0 = nI t ∧ ¬ sz t = 0) ∧ (∀ b, b < 2 → ∃ f m, f < 4 ∧ m ≤ 4 ∧ w (56 + 6 * b) = nI f ∧ w (57 + 6 * b) = nI m) ∧ ∃ s n, w 4 = nI s ∧ w 3 = nI n ∧ s ≤ n ∧ n ≤ s + 16 ∧ n ≤ c
theorem kOK.congr {c : Nat} {sz w w' : Nat → Int32} (h : kOK c sz w) (h0 : w' 0 = w 0) (h3 : w' 3 = w 3) (h4 : w' 4 = w 4) (hq : ∀ b, b < 2 → w' (56 + 6 * b) = w (56 + 6 * b) ∧ w' (57 + 6 * b) = w (57 + 6 * b)) : kOK c sz w' := by
  obtain ⟨⟨t, t1, t2, t3⟩, hb, s, n, e1, e2, e3⟩ := h
  refine ⟨⟨t, t1, h0.trans t2, t3⟩, fun b hb' => ?_, s, n, h4.trans e1, h3.trans e2, e3⟩
  obtain ⟨f, m, f1, m1, f2, m2⟩ := hb b hb'
  exact ⟨f, m, f1, m1, (hq b hb').1.trans f2, (hq b hb').2.trans m2⟩
theorem kOK.mono {c c' : Nat} {sz w : Nat → Int32} (h : kOK c sz w) (hc : c ≤ c') : kOK c' sz w := by
  obtain ⟨h1, h2, s, n, e1, e2, e3, e4, e5⟩ := h
  exact ⟨h1, h2, s, n, e1, e2, e3, e4, by omega⟩
/-- the words as an attempt sees them -/
def view (S : XS) : Nat → Int32 := fun a => f_see S (nI a)
def adr (a : Nat) : Prop := a = 3 ∨ (8 ≤ a ∧ a < 84)
def PD (S : XS) (p : Nat) : Prop := S.1 12 = nI p ∧ (∀ e, e < p → ∃ a, adr a ∧ S.2 2 e = nI a) ∧ ∀ e e', e < p → e' < p → S.2 2 e = S.2 2 e' → e = e'
theorem view_put {S : XS} {p a b : Nat} {v : Int32} (hp : S.1 12 = nI p) (h : p < 1000) (ha : a < 1000) (hb : b < 1000) : view (f_put S (nI a) v) b = if b = a then v else view S b := by
  unfold view
  rw [see_put hp h]
  by_cases c : b = a
  · rw [if_pos c, if_pos (by rw [c])]
  · rw [if_neg c, if_neg (by rw [nI_eq (by omega) (by omega)]; exact c)]
theorem place_find {S : XS} {p : Nat} (hp : S.1 12 = nI p) (h : p < 1000) (a : Int32) : f_place S a = f_find (S.2 2) a p 0 := by
  unfold f_place
  rw [hp, show ix (nI p) = p from nI_clamp (by omega)]
theorem PD.put {S : XS} {p a : Nat} {v : Int32} (h : PD S p) (hp : p < 900) (ha : adr a) : (f_place S (nI a) = -1 → PD (f_put S (nI a) v) (p + 1)) ∧ (¬ f_place S (nI a) = -1 → PD (f_put S (nI a) v) p) := by
  obtain ⟨h1, h2, h3⟩ := h
  have ep : ix (S.1 12) = p := by rw [h1]; exact nI_clamp (by omega)
  constructor
  · intro c
    have e1 : f_put S (nI a) v = xa (xa (xs S 12 (S.1 12 + 1)) 2 (ix (S.1 12)) (nI a)) 3 (ix (S.1 12)) v := if_pos c
    have e2 : (f_put S (nI a) v).2 2 = upd (S.2 2) p (nI a) := by rw [e1, ep]; rfl
    have hn : ∀ e, e < p → ¬ S.2 2 e = nI a := by
      rw [place_find h1 (by omega), find_none (by omega)] at c
      exact fun e he => c e (by omega) (by omega)
    refine ⟨by rw [e1]; show S.1 12 + 1 = _; rw [h1, nI_1], fun e he => ?_, fun e e' he he' hee => ?_⟩
    · rw [e2]
      by_cases c2 : e = p
      · exact ⟨a, ha, by rw [c2, pk_us]⟩
      · rw [pk_un c2]; exact h2 e (by omega)
    · rw [e2] at hee
      by_cases c2 : e = p <;> by_cases c3 : e' = p
      · omega
      · rw [c2, pk_us, pk_un c3] at hee
        exact absurd hee.symm (hn e' (by omega))
      · rw [c3, pk_us, pk_un c2] at hee
        exact absurd hee (hn e (by omega))
      · rw [pk_un c2, pk_un c3] at hee
        exact h3 e e' (by omega) (by omega) hee
  · intro c
    have e1 : f_put S (nI a) v = xa S 3 (ix (f_place S (nI a))) v := if_neg c
    have e2 : (f_put S (nI a) v).2 2 = S.2 2 := by rw [e1]; rfl
    refine ⟨by rw [e1]; exact h1, ?_, ?_⟩
    · rw [e2]; exact h2
    · rw [e2]; exact h3
theorem place_put {S : XS} {p a b : Nat} {v : Int32} (h : PD S p) (hp : p < 900) (ha : adr a) (hab : a ≠ b) (hb : b < 1000) (ha2 : a < 1000) : f_place (f_put S (nI a) v) (nI b) = -1 ↔ f_place S (nI b) = -1 := by
  have hne : ¬ nI a = nI b := by rw [nI_eq (by omega) (by omega)]; exact hab
  have h1 := h.1
  have ep : ix (S.1 12) = p := by rw [h1]; exact nI_clamp (by omega)
  by_cases c : f_place S (nI a) = -1
  · have e1 : f_put S (nI a) v = xa (xa (xs S 12 (S.1 12 + 1)) 2 (ix (S.1 12)) (nI a)) 3 (ix (S.1 12)) v := if_pos c
    have e2 : (f_put S (nI a) v).2 2 = upd (S.2 2) p (nI a) := by rw [e1, ep]; rfl
    have hq := ((h.put (v := v) hp ha).1 c).1
    rw [place_find hq (by omega), place_find h1 (by omega), e2, find_none (by omega), find_none (by omega)]
    constructor
    · intro z e he1 he2
      have := z e (by omega) (by omega)
      rwa [pk_un (by omega)] at this
    · intro z e he1 he2
      by_cases c2 : e = p
      · rw [c2, pk_us]; exact hne
      · rw [pk_un c2]; exact z e (by omega) (by omega)
  · have e1 : f_put S (nI a) v = xa S 3 (ix (f_place S (nI a))) v := if_neg c
    have hq := ((h.put (v := v) hp ha).2 c).1
    have e2 : (f_put S (nI a) v).2 2 = S.2 2 := by rw [e1]; rfl
    rw [place_find hq (by omega), place_find h1 (by omega), e2]
/-- what an attempt has pending is in order, and good as it is seen -/
def PV (c : Nat) (sz : Nat → Int32) (S : XS) : Prop := ∃ p, PD S p ∧ p ≤ 38 ∧ kOK c sz (view S)
theorem PV.xa4 {c : Nat} {sz : Nat → Int32} {S : XS} {i : Nat} {v : Int32} (h : PV c sz S) : PV c sz (xa S 4 i v) := h
theorem room_le {S : XS} {p : Nat} {a b : Int32} (hp : S.1 12 = nI p) (h : p ≤ 38) (hr : ¬ f_room S a b = 0) : p + (if f_place S a = -1 then 1 else 0) + (if b = a then 0 else if f_place S b = -1 then 1 else 0) ≤ 38 := by
  unfold f_room at hr
  split at hr
  · exact absurd rfl hr
  · rename_i hle
    have e : S.1 12 + f_more S a b = nI (p + (if f_place S a = -1 then 1 else 0) + (if b = a then 0 else if f_place S b = -1 then 1 else 0)) := by
      rw [hp]
      unfold f_more
      by_cases c1 : f_place S a = -1 <;> by_cases c2 : b = a <;> by_cases c3 : f_place S b = -1 <;> simp only [c1, c2, c3, if_true, if_false]
      all_goals first | exact nI_add p 1 | exact nI_add p 0 | exact nI_add p (1 + 1) | exact nI_add p (0 + 1)
    rw [e, show (38 : Int32) = nI 38 from rfl, nI_ltI (by decide) (by split <;> split <;> (try split) <;> omega)] at hle
    omega
theorem PV.store {c : Nat} {sz : Nat → Int32} {S : XS} {a : Nat} {v : Int32} (h : PV c sz S) (ha : 8 ≤ a ∧ a < 56) : PV c sz (f_store S (nI a) v) := by
  obtain ⟨p, h1, h2, h3⟩ := h
  unfold f_store
  by_cases cr : f_room S (nI a) (nI a) = 0
  · rw [if_pos cr]; exact ⟨p, h1, h2, h3⟩
  · rw [if_neg cr]
    have hr := room_le h1.1 h2 cr
    have hv : ∀ b, b < 1000 → b ≠ a → view (f_put S (nI a) v) b = view S b := fun b hb hn => by rw [view_put h1.1 (by omega) (by omega) hb, if_neg hn]
    have hk : kOK c sz (view (f_put S (nI a) v)) := h3.congr (hv 0 (by omega) (by omega)) (hv 3 (by omega) (by omega)) (hv 4 (by omega) (by omega)) (fun b hb => ⟨hv _ (by omega) (by omega), hv _ (by omega) (by omega)⟩)
    have hp := h1.put (a := a) (v := v) (by omega) (Or.inr (by omega))
    by_cases cp : f_place S (nI a) = -1
    · rw [if_pos cp, if_pos rfl] at hr
      exact ⟨p + 1, hp.1 cp, by omega, hk⟩
    · exact ⟨p, hp.2 cp, h2, hk⟩
/-- two words are put -/
theorem PD.two {S : XS} {p a b : Nat} {v v' : Int32} (h : PD S p) (hp : p ≤ 38) (ha : adr a) (hb : adr b) (hab : a ≠ b) (hr : ¬ f_room S (nI a) (nI b) = 0) : (∃ q, PD (f_put (f_put S (nI a) v) (nI b) v') q ∧ q ≤ 38) ∧ ∀ k, k < 1000 → view (f_put (f_put S (nI a) v) (nI b) v') k = if k = b then v' else if k = a then v else view S k := by
  have ha2 : a < 1000 := by rcases ha with e | e <;> omega
  have hb2 : b < 1000 := by rcases hb with e | e <;> omega
  have hne : ¬ nI b = nI a := by rw [nI_eq (by omega) (by omega)]; exact fun z => hab z.symm
  have hr := room_le h.1 hp hr
  rw [if_neg hne] at hr
  have hpa := h.put (a := a) (v := v) (by omega) ha
  have hpl := place_put (v := v) h (by omega) ha hab hb2 ha2
  have step : ∃ q, PD (f_put S (nI a) v) q ∧ q ≤ 38 ∧ q + (if f_place (f_put S (nI a) v) (nI b) = -1 then 1 else 0) ≤ 38 := by
    by_cases c1 : f_place S (nI a) = -1
    · rw [if_pos c1] at hr
      refine ⟨p + 1, hpa.1 c1, by split at hr <;> omega, ?_⟩
      by_cases c2 : f_place S (nI b) = -1
      · rw [if_pos (hpl.mpr c2)]; rw [if_pos c2] at hr; omega
      · rw [if_neg (fun z => c2 (hpl.mp z))]; rw [if_neg c2] at hr; omega
    · rw [if_neg c1] at hr
      refine ⟨p, hpa.2 c1, hp, ?_⟩
      by_cases c2 : f_place S (nI b) = -1
      · rw [if_pos (hpl.mpr c2)]; rw [if_pos c2] at hr; omega
      · rw [if_neg (fun z => c2 (hpl.mp z))]; omega
  obtain ⟨q, q1, q2, q3⟩ := step
  have hpb := q1.put (a := b) (v := v') (by omega) hb
  refine ⟨?_, fun k hk => ?_⟩
  · by_cases c : f_place (f_put S (nI a) v) (nI b) = -1
    · rw [if_pos c] at q3; exact ⟨q + 1, hpb.1 c, q3⟩
    · exact ⟨q, hpb.2 c, q2⟩
  · rw [view_put q1.1 (by omega) hb2 hk]
    by_cases c : k = b
    · rw [if_pos c, if_pos c]
    · rw [if_neg c, if_neg c, view_put h.1 (by omega) ha2 hk]
theorem q_num {b : Nat} : (56 + 6 * nI b : Int32) = nI (56 + 6 * b) ∧ (56 + 6 * nI b + 1 : Int32) = nI (57 + 6 * b) ∧ ∀ f, (56 + 6 * nI b + 2 + nI f : Int32) = nI (58 + 6 * b + f) := by
  have e1 : (56 + 6 * nI b : Int32) = nI (56 + 6 * b) := by
    rw [show (6 : Int32) = nI 6 from rfl, pk_mul, show (56 : Int32) = nI 56 from rfl, nI_add]
  refine ⟨e1, ?_, fun f => ?_⟩
  · rw [e1, nI_1]
    congr 1
    omega
  · rw [e1, show (2 : Int32) = nI 2 from rfl, nI_add, nI_add]
    congr 1
    omega
theorem PV.push {c : Nat} {sz : Nat → Int32} {S : XS} {b : Nat} {v : Int32} (h : PV c sz S) (hb : b < 2) : PV c sz (f_push1 S (56 + 6 * nI b) v) := by
  obtain ⟨p, h1, h2, h3⟩ := h
  obtain ⟨f, m, f1, m1, f2, m2⟩ := h3.2.1 b hb
  obtain ⟨e1, e2, e3⟩ := q_num (b := b)
  have hS : PV c sz (xa S 4 7 0) := ⟨p, h1, h2, h3⟩
  unfold f_push1 f_push2
  rw [e2, e1, show f_see S (nI (57 + 6 * b)) = nI m from m2, show f_see S (nI (56 + 6 * b)) = nI f from f2]
  rw [nI_add, show (4 : Int32) = nI 4 from rfl, jrem_nI (by omega) (by decide) (by decide), show nI (56 + 6 * b) + 2 + nI ((f + m) % 4) = nI (58 + 6 * b + (f + m) % 4) by rw [← e1]; exact e3 _]
  by_cases cm : nI m = nI 4
  · rw [if_pos cm]; exact hS
  · rw [if_neg cm]
    have hm : m < 4 := by rw [nI_eq (by omega) (by decide)] at cm; omega
    by_cases cr : f_room (xa S 4 7 0) (nI (58 + 6 * b + (f + m) % 4)) (nI (57 + 6 * b)) = 0
    · rw [if_pos cr]; exact hS
    · rw [if_neg cr, nI_1]
      have hslot : (f + m) % 4 < 4 := Nat.mod_lt _ (by decide)
      obtain ⟨⟨q, q1, q2⟩, hv⟩ := PD.two (S := xa S 4 7 0) (v := v) (v' := nI (m + 1)) h1 h2 (a := 58 + 6 * b + (f + m) % 4) (b := 57 + 6 * b) (Or.inr (by omega)) (Or.inr (by omega)) (by omega) cr
      refine PV.xa4 ⟨q, q1, q2, ?_⟩
      show kOK c sz (view (f_put (f_put (xa S 4 7 0) (nI (58 + 6 * b + (f + m) % 4)) v) (nI (57 + 6 * b)) (nI (m + 1))))
      have hv2 : ∀ k, k < 1000 → k ≠ 57 + 6 * b → k ≠ 58 + 6 * b + (f + m) % 4 → view (f_put (f_put (xa S 4 7 0) (nI (58 + 6 * b + (f + m) % 4)) v) (nI (57 + 6 * b)) (nI (m + 1))) k = view S k := fun k hk n1 n2 => by rw [hv k hk, if_neg n1, if_neg n2]; rfl
      obtain ⟨g1, g2, s, n, g3, g4, g5⟩ := h3
      obtain ⟨t, t1, t2, t3⟩ := g1
      refine ⟨⟨t, t1, by rw [hv2 0 (by omega) (by omega) (by omega)]; exact t2, t3⟩, fun b' hb' => ?_, s, n, by rw [hv2 4 (by omega) (by omega) (by omega)]; exact g3, by rw [hv2 3 (by omega) (by omega) (by omega)]; exact g4, g5⟩
      by_cases cb : b' = b
      · subst cb
        exact ⟨f, m + 1, f1, by omega, by rw [hv2 _ (by omega) (by omega) (by omega)]; exact f2, by rw [hv _ (by omega), if_pos rfl]⟩
      · obtain ⟨f', m', x1, x2, x3, x4⟩ := g2 b' hb'
        exact ⟨f', m', x1, x2, by rw [hv2 _ (by omega) (by omega) (by omega)]; exact x3, by rw [hv2 _ (by omega) (by omega) (by omega)]; exact x4⟩
theorem PV.pop {c : Nat} {sz : Nat → Int32} {S : XS} {b : Nat} {r : Int32} (h : PV c sz S) (hb : b < 2) : PV c sz (f_pop1 S (56 + 6 * nI b) (f_see S (56 + 6 * nI b)) (f_see S (56 + 6 * nI b + 1)) r) := by
  obtain ⟨p, h1, h2, h3⟩ := h
  obtain ⟨f, m, f1, m1, f2, m2⟩ := h3.2.1 b hb
  obtain ⟨e1, e2, e3⟩ := q_num (b := b)
  unfold f_pop1 f_pop2
  rw [e2, e1, show f_see S (nI (57 + 6 * b)) = nI m from m2, show f_see S (nI (56 + 6 * b)) = nI f from f2]
  by_cases cm : nI m = 0
  · rw [if_pos cm]; exact ⟨p, h1, h2, h3⟩
  · rw [if_neg cm]
    have hm : 0 < m := by rcases Nat.eq_zero_or_pos m with z | z; · rw [z] at cm; exact absurd rfl cm
                          · exact z
    by_cases cr : f_room S (nI (56 + 6 * b)) (nI (57 + 6 * b)) = 0
    · rw [if_pos cr]; exact ⟨p, h1, h2, h3⟩
    · rw [if_neg cr, nI_1, show (4 : Int32) = nI 4 from rfl, jrem_nI (by omega) (by decide) (by decide), show (1 : Int32) = nI 1 from rfl, pk_sub (by omega)]
      generalize f_see S (nI (56 + 6 * b) + 2 + nI f) = y
      have hslot : (f + 1) % 4 < 4 := Nat.mod_lt _ (by decide)
      obtain ⟨⟨q, q1, q2⟩, hv⟩ := PD.two (S := xa S 4 (ix r) y) (v := nI ((f + 1) % 4)) (v' := nI (m - 1)) h1 h2 (a := 56 + 6 * b) (b := 57 + 6 * b) (Or.inr (by omega)) (Or.inr (by omega)) (by omega) cr
      refine PV.xa4 ⟨q, q1, q2, ?_⟩
      show kOK c sz (view (f_put (f_put (xa S 4 (ix r) y) (nI (56 + 6 * b)) (nI ((f + 1) % 4))) (nI (57 + 6 * b)) (nI (m - 1))))
      have hv2 : ∀ k, k < 1000 → k ≠ 57 + 6 * b → k ≠ 56 + 6 * b → view (f_put (f_put (xa S 4 (ix r) y) (nI (56 + 6 * b)) (nI ((f + 1) % 4))) (nI (57 + 6 * b)) (nI (m - 1))) k = view S k := fun k hk n1 n2 => by rw [hv k hk, if_neg n1, if_neg n2]; rfl
      obtain ⟨g1, g2, s, n, g3, g4, g5⟩ := h3
      obtain ⟨t, t1, t2, t3⟩ := g1
      refine ⟨⟨t, t1, by rw [hv2 0 (by omega) (by omega) (by omega)]; exact t2, t3⟩, fun b' hb' => ?_, s, n, by rw [hv2 4 (by omega) (by omega) (by omega)]; exact g3, by rw [hv2 3 (by omega) (by omega) (by omega)]; exact g4, g5⟩
      by_cases cb : b' = b
      · subst cb
        exact ⟨(f + 1) % 4, m - 1, hslot, by omega, by rw [hv _ (by omega), if_neg (by omega), if_pos rfl], by rw [hv _ (by omega), if_pos rfl]⟩
      · obtain ⟨f', m', x1, x2, x3, x4⟩ := g2 b' hb'
        exact ⟨f', m', x1, x2, by rw [hv2 _ (by omega) (by omega) (by omega)]; exact x3, by rw [hv2 _ (by omega) (by omega) (by omega)]; exact x4⟩
theorem see4 {S : XS} {p : Nat} (h : PD S p) (hp : p ≤ 38) : f_see S 4 = S.2 0 4 := by
  have e : f_place S 4 = -1 := by
    rw [place_find h.1 (by omega), find_none (by omega)]
    intro e he1 he2 z
    obtain ⟨a, ha, ea⟩ := h.2.1 e (by omega)
    rw [ea, show (4 : Int32) = nI 4 from rfl, nI_eq (by rcases ha with q | q <;> omega) (by decide)] at z
    rcases ha with q | q <;> omega
  unfold f_see
  rw [if_pos e]
  rfl
theorem PV.send {c : Nat} {sz : Nat → Int32} {S : XS} {v : Int32} (h : PV c sz S) (hc : c < 100000) : (∃ d, d ≤ 16 ∧ f_see S 3 - S.2 0 4 = nI d) ∧ PV (c + 1) sz (f_send S v) := by
  obtain ⟨p, h1, h2, h3⟩ := h
  obtain ⟨g1, g2, s, n, g3, g4, g5, g6, g7⟩ := h3
  have e4 : S.2 0 4 = nI s := by rw [← see4 h1 h2]; exact g3
  have e3 : f_see S 3 = nI n := g4
  have ed : f_see S 3 - S.2 0 4 = nI (n - s) := by rw [e3, e4, pk_sub g5]
  have hS : PV (c + 1) sz (xa S 4 7 0) := ⟨p, h1, h2, kOK.mono ⟨g1, g2, s, n, g3, g4, g5, g6, g7⟩ (by omega)⟩
  refine ⟨⟨n - s, by omega, ed⟩, ?_⟩
  unfold f_send f_send2
  rw [show f_see S 3 - (xa S 4 7 0).2 0 4 = nI (n - s) from ed, e3]
  by_cases cm : nI (n - s) = 16
  · rw [if_pos cm]; exact hS
  · rw [if_neg cm]
    have hm : n - s < 16 := by rw [show (16 : Int32) = nI 16 from rfl, nI_eq (by omega) (by decide)] at cm; omega
    rw [show (16 : Int32) = nI 16 from rfl, jrem_nI (by omega) (by decide) (by decide), show (68 : Int32) = nI 68 from rfl, nI_add, show (3 : Int32) = nI 3 from rfl, nI_1]
    have hslot : n % 16 < 16 := Nat.mod_lt _ (by decide)
    by_cases cr : f_room (xa S 4 7 0) (nI (68 + n % 16)) (nI 3) = 0
    · rw [if_pos cr]; exact hS
    · rw [if_neg cr]
      obtain ⟨⟨q, q1, q2⟩, hv⟩ := PD.two (S := xa S 4 7 0) (v := v) (v' := nI (n + 1)) h1 h2 (a := 68 + n % 16) (b := 3) (Or.inr (by omega)) (Or.inl rfl) (by omega) cr
      refine PV.xa4 ⟨q, q1, q2, ?_⟩
      show kOK (c + 1) sz (view (f_put (f_put (xa S 4 7 0) (nI (68 + n % 16)) v) (nI 3) (nI (n + 1))))
      have hv2 : ∀ k, k < 1000 → k ≠ 3 → k ≠ 68 + n % 16 → view (f_put (f_put (xa S 4 7 0) (nI (68 + n % 16)) v) (nI 3) (nI (n + 1))) k = view S k := fun k hk n1 n2 => by rw [hv k hk, if_neg n1, if_neg n2]; rfl
      obtain ⟨t, t1, t2, t3⟩ := g1
      refine ⟨⟨t, t1, by rw [hv2 0 (by omega) (by omega) (by omega)]; exact t2, t3⟩, fun b' hb' => ?_, s, n + 1, by rw [hv2 4 (by omega) (by omega) (by omega)]; exact g3, by rw [hv 3 (by omega), if_pos rfl], by omega, by omega, by omega⟩
      obtain ⟨f', m', x1, x2, x3, x4⟩ := g2 b' hb'
      exact ⟨f', m', x1, x2, by rw [hv2 _ (by omega) (by omega) (by omega)]; exact x3, by rw [hv2 _ (by omega) (by omega) (by omega)]; exact x4⟩
