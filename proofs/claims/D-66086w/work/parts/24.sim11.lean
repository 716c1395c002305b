/-! THE PLAIN LAW, eleventh part: a commit's step -/
set_option maxRecDepth 100000
theorem com_write {c p k a : Nat} {T S : XS} {v t : Int32} (ha : a < 1000) (ha4 : a ≠ 4) (hb : Base c T S) (hr : allR S) (h1 : S.1 18 = 4) (h2 : T.1 17 = 9) (h7 : S.1 7 = 0) (hp : p ≤ 38) (q1 : S.1 12 = nI p) (q2 : T.1 12 = nI (p + 2)) (hk : k ≤ 3 * (p + 2)) (h0 : vp_in (upd (S.2 0) a v 0) 16)
    (ent : Ent c (S.2 13) (upd (S.2 0) a v) (S.2 2) (S.2 3) (p + 2))
    (hl : ∀ j, j < k + 1 → j < 2 * (p + 2) → upd (S.2 0) a v (84 + j) = if j % 2 = 0 then S.2 2 (j / 2) else S.2 3 (j / 2))
    (r1 : k + 1 ≤ 2 * (p + 2) → upd (S.2 0) a v 2 = 0 ∧ kOK c (S.2 13) (upd (S.2 0) a v) ∧ T.1 15 = upd (S.2 0) a v 0)
    (r2 : 2 * (p + 2) < k + 1 → upd (S.2 0) a v 2 = nI (p + 2) ∧ (∀ e, e < k + 1 - 2 * (p + 2) - 1 → upd (S.2 0) a v (ix (S.2 2 e)) = S.2 3 e) ∧ (k + 1 = 2 * (p + 2) + 1 → T.1 15 = upd (S.2 0) a v 0) ∧ (2 * (p + 2) + 1 < k + 1 → T.1 15 = t)) :
    Sim c (xs (f_write T (nI a) v) 11 (nI (k + 1))) (f_write (xs (xs S 11 (nI (k + 1))) 15 t) (nI a) v) := by
  have ea : ix (nI a) = a := nI_clamp (by omega)
  obtain ⟨b1, b2, b3, b4, ⟨hd, s, d1, d2, d3, d4, d5, d6⟩, b6, b7, b8, b9⟩ := hb
  have ag : Ag T S := ⟨b1, b2⟩
  unfold f_write
  rw [ea, b1 1 (by decide)]
  have ag' := (((((ag.sr (k := 11) (nI (k + 1)) (by omega)).sr (k := 15) t (by omega)).a 0 a v).a 1 a (S.2 1 a + 1)).sl (k := 11) (nI (k + 1)) (by omega))
  refine ⟨⟨ag'.1, ag'.2, b3, b4, ⟨hd, s, (pk_un (fun z => ha4 z.symm)).trans d1, d2, d3, d4, d5, d6⟩, b6, b7, b8, h0⟩, hr, Or.inr (Or.inr (Or.inr (Or.inr ⟨h1, h2, h7, p, k + 1, hp, q1, q2, rfl, rfl, by omega, ent, hl, r1, r2⟩)))⟩
theorem est_eq (S : XS) : f_est S = xa S 6 (ix (S.1 15)) (g_max (S.2 6 (ix (S.1 15))) (S.1 2)) := by
  unfold f_est g_max
  by_cases q : S.1 2 ≤ S.2 6 (ix (S.1 15))
  · rw [if_pos q, if_neg (Int32.not_lt.mpr q), xa_id]
  · rw [if_neg q, if_pos (Int32.not_le.mp q)]
theorem Sim.l11 {c : Nat} {T S : XS} (h : Sim c T S) (h18 : S.1 18 = 2) (v : Int32) : Sim c (xs T 11 v) S := by
  obtain ⟨⟨b1, b2, b3, b4, b5, b6, b7, b8, b9⟩, hr, hp⟩ := h
  have ag := Ag.sl (⟨b1, b2⟩ : Ag T S) (k := 11) v (by omega)
  refine ⟨⟨ag.1, ag.2, b3, b4, b5, b6, b7, b8, b9⟩, hr, ?_⟩
  rcases hp with h | h | h | h | h
  · exact absurd (h.1.symm.trans h18) (by decide)
  · exact absurd (h.1.symm.trans h18) (by decide)
  · exact Or.inr (Or.inr (Or.inl h))
  · exact absurd (h.1.symm.trans h18) (by decide)
  · exact absurd (h.1.symm.trans h18) (by decide)
theorem gmax_le {x y n : Nat} (hx : x ≤ n) (hy : y ≤ n) (hn : n < 1000000) : ∃ z, g_max (nI x) (nI y) = nI z ∧ z ≤ n := by
  unfold g_max
  split
  · exact ⟨y, rfl, hy⟩
  · exact ⟨x, rfl, hx⟩
theorem done_sim {c : Nat} {T S : XS} {w : Int32} (hc : c < 50000) (hb : Base c T S) (hr : allR S) (h15 : T.1 15 = S.1 15) (hk : kOK c (S.2 13) (S.2 0)) : Sim c (xs (g_done T) 11 w) (f_done S) ∧ (f_done S).1 5 = S.1 5 ∧ (f_done S).1 3 = S.1 3 ∧ ¬ (f_done S).1 18 = 0 := by
  obtain ⟨b1, b2, b3, b4, ⟨hd, s, d1, d2, d3, d4, d5, d6⟩, b6, ⟨y, y1, y2⟩, b8, b9⟩ := hb
  have ag : Ag T S := ⟨b1, b2⟩
  obtain ⟨t, t1, t2⟩ := vp_in_of b3 (by decide)
  have t3 : S.1 15 = nI t := h15.symm.trans t2
  have et : ix (nI t) = t := nI_clamp (by omega)
  obtain ⟨x, x1, x2⟩ := b6 t t1
  obtain ⟨z, z1, z2⟩ := gmax_le (x := x) (y := y) (n := 2000 + 10 * c) (by omega) (by omega) (by omega)
  have eS : f_done S = f_leave (xa (xa (xa (xa S 0 2 0) 1 2 (S.2 1 2 + 1)) 6 t (nI z)) 7 t 0) := by
    unfold f_done f_done1
    rw [est_eq]
    show f_leave (xa (xa (f_write S 2 0) 6 (ix (S.1 15)) (g_max (S.2 6 (ix (S.1 15))) (S.1 2))) 7 (ix (S.1 15)) 0) = _
    rw [t3, et, x1, y1, z1]
    rfl
  have eT : g_done T = g_leave (xa (xa (xa (xa T 0 2 0) 1 2 (S.2 1 2 + 1)) 6 t (nI z)) 7 t 0) := by
    unfold g_done g_succ g_succ1
    show g_leave (xa (xa (f_write T 2 0) 6 (ix (T.1 15)) (g_max (T.2 6 (ix (T.1 15))) (T.1 2))) 7 (ix (T.1 15)) 0) = _
    rw [t2, et, b1 6 (by decide), b2 2 (by omega), x1, y1, z1]
    unfold f_write
    rw [b1 1 (by decide)]
    rfl
  rw [eS, eT]
  have ag' := (((ag.a 0 2 0).a 1 2 (S.2 1 2 + 1)).a 6 t (nI z)).a 7 t 0
  have hb' : Base c (xa (xa (xa (xa T 0 2 0) 1 2 (S.2 1 2 + 1)) 6 t (nI z)) 7 t 0) (xa (xa (xa (xa S 0 2 0) 1 2 (S.2 1 2 + 1)) 6 t (nI z)) 7 t 0) := by
    refine ⟨ag'.1, ag'.2, b3, b4, ⟨hd, s, (show upd (S.2 0) 2 0 4 = nI s from (pk_un (by decide)).trans d1), d2, d3, d4, d5, d6⟩, fun q hq => ?_, ⟨y, y1, y2⟩, b8, ?_⟩
    · show ∃ x, upd (S.2 6) t (nI z) q = nI x ∧ _
      by_cases c1 : q = t
      · rw [c1, pk_us]; exact ⟨z, rfl, z2⟩
      · rw [pk_un c1]; exact b6 q hq
    · show vp_in (upd (S.2 0) 2 0 0) 16
      rw [pk_un (by decide)]; exact b9
  obtain ⟨l1, l2, l3, l4, l5, _⟩ := leave_at T (xa (xa (xa (xa S 0 2 0) 1 2 (S.2 1 2 + 1)) 6 t (nI z)) 7 t 0)
  refine ⟨(leave_sim hb' hr (show upd (S.2 0) 2 0 2 = 0 from pk_us) (show kOK c (S.2 13) (upd (S.2 0) 2 0) from hk.congr (pk_un (by decide)) (pk_un (by decide)) (pk_un (by decide)) (fun b hb => ⟨pk_un (by omega), pk_un (by omega)⟩))).l11 l3 w, ?_, ?_, ?_⟩
  · exact l5 5 (by decide) (by decide) (by decide) (by decide) (by decide) (by decide) (by decide)
  · exact l5 3 (by decide) (by decide) (by decide) (by decide) (by decide) (by decide) (by decide)
  · rw [l3]; decide
/-- the cases of a commit's step -/
def lst (S : XS) (k : Nat) : Int32 := if k % 2 = 0 then S.2 2 (k / 2) else S.2 3 (k / 2)
theorem mul_n (a n : Nat) : (nI a * nI n : Int32) = nI (a * n) := pk_mul a n
theorem com2_A (S : XS) {n k : Nat} (h : k < 2 * n) (hn : n ≤ 40) : f_com2 S (nI n) (nI k) = f_write S (nI (84 + k)) (lst S k) ∧ g_com2 S (nI n) (nI k) = f_write S (nI (84 + k)) (lst S k) := by
  have e1 : ¬ (2 * nI n : Int32) ≤ nI k := by
    rw [show (2 : Int32) = nI 2 from rfl, pk_mul, nI_leI (by omega) (by omega)]; omega
  have e2 : (84 + nI k : Int32) = nI (84 + k) := by rw [show (84 : Int32) = nI 84 from rfl, nI_add]
  have e3 : (if jrem (nI k) 2 = 0 then S.2 2 (ix (nI k / 2)) else S.2 3 (ix (nI k / 2))) = lst S k := by
    unfold lst
    rw [show (2 : Int32) = nI 2 from rfl, jrem_nI (by omega) (by decide) (by decide), pk_div (by omega) (by decide) (by decide), show ix (nI (k / 2)) = k / 2 from nI_clamp (by omega)]
    by_cases q : k % 2 = 0
    · rw [if_pos q, if_pos (by rw [q]; rfl)]
    · rw [if_neg q, if_neg (by rw [show (0 : Int32) = nI 0 from rfl, nI_eq (by omega) (by decide)]; exact q)]
  unfold f_com2 g_com2
  rw [if_neg e1, if_neg e1, e2, e3]
  exact ⟨rfl, rfl⟩
theorem com2_B (S : XS) {n k : Nat} (h : k = 2 * n) (hn : n ≤ 40) : f_com2 S (nI n) (nI k) = f_write S (nI 2) (nI n) ∧ g_com2 S (nI n) (nI k) = f_write S (nI 2) (nI n) := by
  have e1 : (2 * nI n : Int32) ≤ nI k := by
    rw [show (2 : Int32) = nI 2 from rfl, pk_mul, nI_leI (by omega) (by omega)]; omega
  have e2 : nI k = (2 * nI n : Int32) := by rw [show (2 : Int32) = nI 2 from rfl, pk_mul, h]
  unfold f_com2 g_com2
  rw [if_pos e1, if_pos e1, if_pos e2, if_pos e2]
  exact ⟨rfl, rfl⟩
theorem com2_C (S : XS) {n k : Nat} (h : 2 * n < k) (h3 : k ≤ 3 * n) (hn : n ≤ 40) : f_com2 S (nI n) (nI k) = f_write (xs S 15 (if k = 2 * n + 1 then S.2 0 0 else S.1 15)) (S.2 2 (k - 2 * n - 1)) (S.2 3 (k - 2 * n - 1)) ∧ g_com2 S (nI n) (nI k) = f_write S (S.2 2 (k - 2 * n - 1)) (S.2 3 (k - 2 * n - 1)) := by
  have m2 : (2 * nI n : Int32) = nI (2 * n) := by rw [show (2 : Int32) = nI 2 from rfl, pk_mul]
  have m3 : (3 * nI n : Int32) = nI (3 * n) := by rw [show (3 : Int32) = nI 3 from rfl, pk_mul]
  have e1 : nI (2 * n) ≤ nI k := by rw [nI_leI (by omega) (by omega)]; omega
  have e2 : ¬ nI k = nI (2 * n) := by rw [nI_eq (by omega) (by omega)]; omega
  have e3 : ¬ nI (3 * n) < nI k := by rw [nI_ltI (by omega) (by omega)]; omega
  have e4 : nI k - nI (2 * n) - 1 = nI (k - 2 * n - 1) := by rw [pk_sub (by omega), show (1 : Int32) = nI 1 from rfl, pk_sub (by omega)]
  have e5 : ix (nI (k - 2 * n - 1)) = k - 2 * n - 1 := nI_clamp (by omega)
  have e6 : (if nI (k - 2 * n - 1) = 0 then S.2 0 0 else S.1 15) = if k = 2 * n + 1 then S.2 0 0 else S.1 15 := by
    by_cases q : k = 2 * n + 1
    · rw [if_pos q, if_pos (by rw [show k - 2 * n - 1 = 0 by omega]; rfl)]
    · rw [if_neg q, if_neg (by rw [show (0 : Int32) = nI 0 from rfl, nI_eq (by omega) (by decide)]; omega)]
  unfold f_com2 g_com2 f_apply
  rw [m2, m3, if_pos e1, if_pos e1, if_neg e2, if_neg e2, if_neg e3, if_neg e3, e4, e5, e6]
  exact ⟨rfl, rfl⟩
theorem com2_D (S : XS) {n k : Nat} (h : 3 * n < k) (hn : n ≤ 40) (h0 : 0 < n) (hk : k < 1000) : f_com2 S (nI n) (nI k) = f_done S ∧ g_com2 S (nI n) (nI k) = g_done S := by
  have m2 : (2 * nI n : Int32) = nI (2 * n) := by rw [show (2 : Int32) = nI 2 from rfl, pk_mul]
  have m3 : (3 * nI n : Int32) = nI (3 * n) := by rw [show (3 : Int32) = nI 3 from rfl, pk_mul]
  have e1 : nI (2 * n) ≤ nI k := by rw [nI_leI (by omega) (by omega)]; omega
  have e2 : ¬ nI k = nI (2 * n) := by rw [nI_eq (by omega) (by omega)]; omega
  have e3 : nI (3 * n) < nI k := by rw [nI_ltI (by omega) (by omega)]; omega
  unfold f_com2 g_com2
  rw [m2, m3, if_pos e1, if_pos e1, if_neg e2, if_neg e2, if_pos e3, if_pos e3]
  exact ⟨rfl, rfl⟩
set_option maxHeartbeats 4000000 in
theorem com_sim {c : Nat} {T S : XS} (hc : c < 50000) (hb : Base c T S) (hr : allR S) (hp : pCom c T S) : Sim c (g_com T) (f_com1 S) ∧ comOk S ∧ comOkC T ∧ (f_com1 S).1 5 = S.1 5 ∧ (f_com1 S).1 3 = S.1 3 ∧ ¬ (f_com1 S).1 18 = 0 := by
  obtain ⟨h1, h2, h7, p, k, p38, q1, q2, k1, k2, kb, ent, hl, r1, r2⟩ := hp
  have b1 := hb.1
  have b3 := hb.2.2.1
  have b9 := hb.2.2.2.2.2.2.2.2
  have n18 : ¬ S.1 18 = 0 := by rw [h1]; decide
  have wh : ∀ e, e < p + 2 → vp_in (S.2 2 e) 164 := fun e he => by
    obtain ⟨a, a1, a2⟩ := ent.1 e he
    rw [a2]; exact vp_in_nI (by have := a1.lt; omega) (by decide)
  have ok : comOk S := ⟨p, k, p38, q1, k1, kb, wh, fun q => by rw [← (r2 (by omega)).2.2.2 (by omega)]; exact b3⟩
  have okT : comOkC T := ⟨p + 2, k, by omega, q2, k2, kb, by rw [b1 2 (by decide)]; exact wh, b3⟩
  have eS : f_com1 S = f_com2 (xs S 11 (nI (k + 1))) (nI (p + 2)) (nI k) := by
    unfold f_com1
    rw [q1, k1, nI_1, show (2 : Int32) = nI 2 from rfl, nI_add]
  have eT : g_com T = g_inc (g_com2 T (nI (p + 2)) (nI k)) := by
    unfold g_com
    rw [q2, k2]
  have x15 : xs (xs S 11 (nI (k + 1))) 15 (S.1 15) = xs S 11 (nI (k + 1)) := xs_id (xs S 11 (nI (k + 1))) 15
  have inc : ∀ a v, g_inc (f_write T a v) = xs (f_write T a v) 11 (nI (k + 1)) := fun a v => by
    unfold g_inc
    rw [show (f_write T a v).1 11 = nI k from k2, nI_1]
  suffices hh : Sim c (g_com T) (f_com1 S) ∧ (f_com1 S).1 5 = S.1 5 ∧ (f_com1 S).1 3 = S.1 3 ∧ ¬ (f_com1 S).1 18 = 0 from ⟨hh.1, ok, okT, hh.2⟩
  rw [eS, eT]
  rcases (show k < 2 * (p + 2) ∨ k = 2 * (p + 2) ∨ (2 * (p + 2) < k ∧ k ≤ 3 * (p + 2)) ∨ k = 3 * (p + 2) + 1 by omega) with cA | cB | ⟨cC, cC'⟩ | cD
  · rw [(com2_A _ cA (by omega)).1, (com2_A _ cA (by omega)).2, inc]
    have el : lst T k = lst S k := by unfold lst; rw [b1 2 (by decide), b1 3 (by decide)]
    rw [el, show lst (xs S 11 (nI (k + 1))) k = lst S k from rfl]
    obtain ⟨a1, a2, a3⟩ := r1 (by omega)
    have lo : ∀ a, a < 84 → upd (S.2 0) (84 + k) (lst S k) a = S.2 0 a := fun a ha => pk_un (by omega)
    refine ⟨?_, rfl, rfl, n18⟩
    rw [← x15]
    refine com_write (by omega) (by omega) hb hr h1 h2 h7 p38 q1 q2 (by omega) ?_ ?_ ?_ (fun _ => ⟨?_, ?_, ?_⟩) (fun q => absurd q (by omega))
    · rw [lo 0 (by omega)]; exact b9
    · exact ent.congr (by omega) (fun _ _ => rfl) (fun _ _ => rfl) (fun a ha _ _ => lo a ha)
    · intro j hj hj2
      by_cases cj : j = k
      · rw [cj, pk_us]; rfl
      · rw [pk_un (by omega)]; exact hl j (by omega) hj2
    · rw [lo 2 (by omega)]; exact a1
    · exact a2.congr (lo 0 (by omega)) (lo 3 (by omega)) (lo 4 (by omega)) (fun b hb => ⟨lo _ (by omega), lo _ (by omega)⟩)
    · rw [lo 0 (by omega)]; exact a3
  · rw [(com2_B _ cB (by omega)).1, (com2_B _ cB (by omega)).2, inc]
    obtain ⟨a1, a2, a3⟩ := r1 (by omega)
    have lo : ∀ a, a ≠ 2 → upd (S.2 0) 2 (nI (p + 2)) a = S.2 0 a := fun a ha => pk_un ha
    refine ⟨?_, rfl, rfl, n18⟩
    rw [← x15]
    refine com_write (by omega) (by omega) hb hr h1 h2 h7 p38 q1 q2 (by omega) ?_ ?_ ?_ (fun q => absurd q (by omega)) (fun q => ⟨pk_us, fun e he => absurd he (by omega), fun _ => ?_, fun q => absurd q (by omega)⟩)
    · rw [lo 0 (by omega)]; exact b9
    · exact ent.congr (by omega) (fun _ _ => rfl) (fun _ _ => rfl) (fun a _ ha _ => lo a ha)
    · intro j hj hj2
      rw [lo _ (by omega)]; exact hl j (by omega) hj2
    · rw [lo 0 (by omega)]; exact a3
  · rw [(com2_C _ cC cC' (by omega)).1, (com2_C _ cC cC' (by omega)).2, inc, b1 2 (by decide), b1 3 (by decide)]
    obtain ⟨a1, a2, a3, a4⟩ := r2 cC
    have he : k - 2 * (p + 2) - 1 < p + 2 := by omega
    generalize hee : k - 2 * (p + 2) - 1 = e at he a2 ⊢
    obtain ⟨a, aC, ea⟩ := ent.1 e he
    have al := aC.lt
    have ia : ix (S.2 2 e) = a := by rw [ea]; exact nI_clamp (by omega)
    have hi : ∀ b, b ≠ a → upd (S.2 0) a (S.2 3 e) b = S.2 0 b := fun b hb => pk_un hb
    show Sim c (xs (f_write T (S.2 2 e) (S.2 3 e)) 11 (nI (k + 1))) (f_write (xs (xs S 11 (nI (k + 1))) 15 (if k = 2 * (p + 2) + 1 then S.2 0 0 else S.1 15)) (S.2 2 e) (S.2 3 e)) ∧ _
    refine ⟨?_, rfl, rfl, n18⟩
    have tk := ent.task (by omega) he b9
    rw [ia] at tk
    rw [ea]
    refine com_write (by omega) al.2.2 hb hr h1 h2 h7 p38 q1 q2 (by omega) tk ?_ ?_ (fun q => absurd q (by omega)) (fun q => ⟨?_, ?_, fun q => absurd q (by omega), fun _ => ?_⟩)
    · refine ent.congr (by omega) (fun _ _ => rfl) (fun _ _ => rfl) (fun b _ _ hb => hi b (fun z => hb e he (by rw [ea, z])))
    · intro j hj hj2
      rw [hi _ (by omega)]; exact hl j (by omega) hj2
    · rw [hi 2 (by omega)]; exact a1
    · intro e' he'
      by_cases ce : e' = e
      · rw [ce, ia, pk_us]
      · obtain ⟨a', aC', ea'⟩ := ent.1 e' (by omega)
        have al' := aC'.lt
        have ia' : ix (S.2 2 e') = a' := by rw [ea']; exact nI_clamp (by omega)
        rw [ia', hi a' (fun z => ce (ent.2.1 e' e (by omega) he (by rw [ea, ea', z]))), ← ia']
        exact a2 e' (by omega)
    · by_cases ck : k = 2 * (p + 2) + 1
      · rw [if_pos ck]; exact a3 ck
      · rw [if_neg ck]; exact a4 (by omega)
  · rw [(com2_D _ (by omega) (by omega) (by omega) (by omega)).1, (com2_D _ (by omega) (by omega) (by omega) (by omega)).2]
    obtain ⟨a1, a2, a3, a4⟩ := r2 (by omega)
    have hb' : Base c T (xs S 11 (nI (k + 1))) := by
      obtain ⟨b1, b2, b3, b4, b5, b6, b7, b8, b9⟩ := hb
      have ag := Ag.sr (⟨b1, b2⟩ : Ag T S) (k := 11) (nI (k + 1)) (by omega)
      exact ⟨ag.1, ag.2, b3, b4, b5, b6, b7, b8, b9⟩
    exact done_sim (S := xs S 11 (nI (k + 1))) hc hb' hr (a4 (by omega)) (ent.done (by omega) (fun e he => a2 e (by omega)))
