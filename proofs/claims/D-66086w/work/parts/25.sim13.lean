/-! THE PLAIN LAW, thirteenth part: a step, whole -/
set_option maxRecDepth 100000
theorem pay_if {S : XS} {k : Int32} (F : XS → XS) : (if f_paysR S k = 0 then f_pays S k else F (f_pays S k)) = if k ≤ S.1 0 then F (paid S (S.1 0 - k) (S.1 2 + (if S.1 18 = 3 ∨ S.1 18 = 4 then k else 0))) else f_fail S := by
  by_cases q : k ≤ S.1 0
  · rw [if_pos q, fpays_eq q]
    unfold f_paysR
    rw [if_pos q, if_neg (by decide)]
  · rw [if_neg q]
    unfold f_paysR f_pays
    rw [if_neg q, if_pos rfl, if_neg q]
theorem cost_num (o : Int32) : ∃ x, f_cost o = nI x ∧ x ≤ 10 := by
  unfold f_cost
  split
  · exact ⟨4, rfl, by decide⟩
  · split
    · exact ⟨2, rfl, by decide⟩
    · split
      · exact ⟨3, rfl, by decide⟩
      · split
        · exact ⟨10, rfl, by decide⟩
        · exact ⟨1, rfl, by decide⟩
def ActK (c : Nat) (T S : XS) : Prop := ∃ Y, Sim (c + 2) (g_actS (g_pay T (g_cost T))) Y ∧ Y.1 5 = S.1 5 ∧ ¬ Y.1 18 = 0 ∧ (f_phase S = if g_cost T ≤ S.1 0 then Y else f_fail S) ∧ stepOk S ∧ ∀ cd sz, T.2 12 = cd → T.2 13 = sz → stepOkC cd sz T
theorem act_rep {c : Nat} {T S : XS} (hb : Base c T S) (hr : allR S) (h : pRep c T S) : ActK c T S := by
  have e0 : T.1 0 = S.1 0 := hb.2.1 0 (by omega)
  have e2 : T.1 2 = S.1 2 := hb.2.1 2 (by omega)
  have ek : g_cost T = 4 := by unfold g_cost; rw [if_neg (by rw [h.2.1]; decide), if_neg (by rw [h.2.1]; decide)]
  have ep : g_pay T 4 = paid T (S.1 0 - 4) (S.1 2) := by
    rw [gpay_eq, if_neg (by rw [h.2.1]; decide), i_add0, e0, e2]
  obtain ⟨y, y1, y2⟩ := hb.2.2.2.2.2.2.1
  have hb' := hb.paid_ (S.1 0 - 4) (y := S.1 2) ⟨y, y1, by omega⟩
  have hp' : pRep (c + 1) (paid T (S.1 0 - 4) (S.1 2)) (paid S (S.1 0 - 4) (S.1 2)) := h.mono (Nat.le_succ c)
  obtain ⟨r1, r2, r3, r4, r5, r6⟩ := rep_sim hb' hr hp'
  refine ⟨f_rep (paid S (S.1 0 - 4) (S.1 2)), ?_, r4, r6, ?_, ⟨hb.2.2.2.2.2.2.2.2, fun _ => r2, fun q => absurd (h.1.symm.trans q) (by decide), fun q => absurd (h.1.symm.trans q) (by decide), fun q => absurd q (by rw [h.1]; decide)⟩, fun cd sz ec es => ⟨Or.inl h.2.1, fun _ => r3, fun q => absurd (h.2.1.symm.trans q) (by decide), fun q => absurd (h.2.1.symm.trans q) (by decide), fun q => absurd (h.2.1.symm.trans q) (by decide), hb.2.2.1, ec, es⟩⟩
  · rw [ek, ep, act_at6 (show (paid T (S.1 0 - 4) (S.1 2)).1 17 = 6 from h.2.1)]
    exact r1.mono (Nat.le_succ _)
  · rw [ek]
    unfold f_phase f_replay
    rw [if_pos h.1, pay_if f_rep, if_neg (show ¬ (S.1 18 = 3 ∨ S.1 18 = 4) by rw [h.1]; decide), i_add0]
theorem act_air {c : Nat} {T S : XS} (hc : c < 40000) (hb : Base c T S) (hr : allR S) (h : pAir c T S) (hn : S.1 7 = 1 ∨ ¬ S.2 0 4 = S.2 0 3) : ActK c T S := by
  have e0 : T.1 0 = S.1 0 := hb.2.1 0 (by omega)
  have e2 : T.1 2 = S.1 2 := hb.2.1 2 (by omega)
  have e7 : T.1 7 = S.1 7 := hb.2.1 7 (by omega)
  have ek : g_cost T = f_airC S := by
    unfold g_cost
    rw [if_neg (by rw [h.2.1]; decide), if_pos h.2.1]
    unfold f_airC
    rw [e7]
  have ep : ∀ k, g_pay T k = paid T (S.1 0 - k) (S.1 2) := fun k => by
    rw [gpay_eq, if_neg (by rw [h.2.1]; decide), i_add0, e0, e2]
  obtain ⟨y, y1, y2⟩ := hb.2.2.2.2.2.2.1
  have hb' := hb.paid_ (S.1 0 - f_airC S) (y := S.1 2) ⟨y, y1, by omega⟩
  have hp' : pAir (c + 1) (paid T (S.1 0 - f_airC S) (S.1 2)) (paid S (S.1 0 - f_airC S) (S.1 2)) := h.mono (Nat.le_succ c)
  obtain ⟨r1, r2, r3, r4, r5, r6⟩ := air_sim (by omega) hb' hr hp' hn
  refine ⟨f_air1 (paid S (S.1 0 - f_airC S) (S.1 2)), ?_, r4, r6, ?_, ⟨hb.2.2.2.2.2.2.2.2, fun q => absurd (h.1.symm.trans q) (by decide), fun _ => r2, fun q => absurd (h.1.symm.trans q) (by decide), fun q => absurd q (by rw [h.1]; decide)⟩, fun cd sz ec es => ⟨Or.inr (Or.inl h.2.1), fun q => absurd (h.2.1.symm.trans q) (by decide), fun _ => r3, fun q => absurd (h.2.1.symm.trans q) (by decide), fun q => absurd (h.2.1.symm.trans q) (by decide), hb.2.2.1, ec, es⟩⟩
  · rw [ek, ep, act_at7 (show (paid T (S.1 0 - f_airC S) (S.1 2)).1 17 = 7 from h.2.1)]
    exact r1
  · rw [ek]
    unfold f_phase f_air
    rw [if_neg (by rw [h.1]; decide), if_pos h.1, pay_if f_air1, if_neg (show ¬ (S.1 18 = 3 ∨ S.1 18 = 4) by rw [h.1]; decide), i_add0]
theorem act_run {c : Nat} {T S : XS} (hc : c < 40000) (hb : Base c T S) (hr : allR S) (h : pRun c T S) : ActK c T S := by
  have e0 : T.1 0 = S.1 0 := hb.2.1 0 (by omega)
  have e2 : T.1 2 = S.1 2 := hb.2.1 2 (by omega)
  obtain ⟨_, k2, k3, _, _, _, kw⟩ := run_sim (by omega) hb hr h
  have ek : g_cost T = f_cost (f_op (f_word S)) := by
    unfold g_cost
    rw [if_pos h.2.1, kw, cost_same k2.2.2.1]
  obtain ⟨x, x1, x2⟩ := cost_num (f_op (f_word S))
  generalize hk : f_cost (f_op (f_word S)) = k at *
  have ep : g_pay T k = paid T (S.1 0 - k) (S.1 2 + k) := by
    rw [gpay_eq, if_pos (Or.inl h.2.1), e0, e2]
  obtain ⟨y, y1, y2⟩ := hb.2.2.2.2.2.2.1
  have hb' := hb.paid_ (S.1 0 - k) (y := S.1 2 + k) ⟨y + x, by rw [y1, x1, nI_add], by omega⟩
  have hp' : pRun (c + 1) (paid T (S.1 0 - k) (S.1 2 + k)) (paid S (S.1 0 - k) (S.1 2 + k)) := h.mono (Nat.le_succ c)
  obtain ⟨r1, r2, r3, r4, r5, r6, _⟩ := run_sim (by omega) hb' hr hp'
  refine ⟨f_runP (paid S (S.1 0 - k) (S.1 2 + k)) (f_word S), ?_, r4, r6, ?_, ⟨hb.2.2.2.2.2.2.2.2, fun q => absurd (h.1.symm.trans q) (by decide), fun q => absurd (h.1.symm.trans q) (by decide), fun _ => k2, fun q => absurd q (by rw [h.1]; decide)⟩, fun cd sz ec es => ⟨Or.inr (Or.inr (Or.inl h.2.1)), fun q => absurd (h.2.1.symm.trans q) (by decide), fun q => absurd (h.2.1.symm.trans q) (by decide), fun _ => k3, fun q => absurd (h.2.1.symm.trans q) (by decide), hb.2.2.1, ec, es⟩⟩
  · rw [ek, ep, act_at8 (show (paid T (S.1 0 - k) (S.1 2 + k)).1 17 = 8 from h.2.1)]
    exact r1
  · rw [ek]
    unfold f_phase f_run
    rw [if_neg (by rw [h.1]; decide), if_neg (by rw [h.1]; decide), if_pos h.1, hk, pay_if (fun U => f_runP U (f_word S)), if_pos (show (S.1 18 = 3 ∨ S.1 18 = 4) from Or.inl h.1)]
theorem act_com {c : Nat} {T S : XS} (hc : c < 40000) (hb : Base c T S) (hr : allR S) (h : pCom c T S) : ActK c T S := by
  have e0 : T.1 0 = S.1 0 := hb.2.1 0 (by omega)
  have e2 : T.1 2 = S.1 2 := hb.2.1 2 (by omega)
  have ek : g_cost T = 4 := by unfold g_cost; rw [if_neg (by rw [h.2.1]; decide), if_neg (by rw [h.2.1]; decide)]
  have ep : g_pay T 4 = paid T (S.1 0 - 4) (S.1 2 + 4) := by
    rw [gpay_eq, if_pos (Or.inr h.2.1), e0, e2]
  obtain ⟨y, y1, y2⟩ := hb.2.2.2.2.2.2.1
  have hb' := hb.paid_ (S.1 0 - 4) (y := S.1 2 + 4) ⟨y + 4, by rw [y1, show (4 : Int32) = nI 4 from rfl, nI_add], by omega⟩
  have hp' : pCom (c + 1) (paid T (S.1 0 - 4) (S.1 2 + 4)) (paid S (S.1 0 - 4) (S.1 2 + 4)) := h.mono (Nat.le_succ c)
  obtain ⟨r1, r2, r3, r4, r5, r6⟩ := com_sim (by omega) hb' hr hp'
  refine ⟨f_com1 (paid S (S.1 0 - 4) (S.1 2 + 4)), ?_, r4, r6, ?_, ⟨hb.2.2.2.2.2.2.2.2, fun q => absurd (h.1.symm.trans q) (by decide), fun q => absurd (h.1.symm.trans q) (by decide), fun q => absurd (h.1.symm.trans q) (by decide), fun _ => r2⟩, fun cd sz ec es => ⟨Or.inr (Or.inr (Or.inr h.2.1)), fun q => absurd (h.2.1.symm.trans q) (by decide), fun q => absurd (h.2.1.symm.trans q) (by decide), fun q => absurd (h.2.1.symm.trans q) (by decide), fun _ => r3, hb.2.2.1, ec, es⟩⟩
  · rw [ek, ep, act_at9 (show (paid T (S.1 0 - 4) (S.1 2 + 4)).1 17 = 9 from h.2.1)]
    exact r1.mono (Nat.le_succ _)
  · rw [ek]
    unfold f_phase f_commit
    rw [if_neg (by rw [h.1]; decide), if_neg (by rw [h.1]; decide), if_neg (by rw [h.1]; decide), pay_if f_com1, if_pos (show (S.1 18 = 3 ∨ S.1 18 = 4) from Or.inr h.1)]
theorem act_step {c : Nat} {T S : XS} (hc : c < 40000) (hb : Base c T S) (hr : allR S) (hp : Ready c T S) : ActK c T S := by
  rcases hp with h | ⟨h, hn⟩ | h | h
  · exact act_rep hb hr h
  · exact act_air hc hb hr h hn
  · exact act_run hc hb hr h
  · exact act_com hc hb hr h
theorem succ_ne (x : Int32) : ¬ x + 1 = x := by
  intro h
  have e : x + 1 = x + 0 := by rw [h, i_add0]
  exact absurd ((Int32.add_right_inj x).mp e) (by decide)
theorem count_5 (S : XS) (t : Int32) : (f_count S t).1 5 = S.1 5 := by
  unfold f_count f_count3
  split <;> rfl
theorem fail_at (S : XS) : (f_fail S).1 5 = S.1 5 + 1 ∧ (f_fail S).1 18 = 0 := by
  obtain ⟨_, _, _, _, _, _, e7⟩ := end_at (xs (f_fail1 (xs S 5 (S.1 5 + 1))) 18 0)
  unfold f_fail
  rw [e7 5 (by decide) (by decide) (by decide) (by decide) (by decide), e7 18 (by decide) (by decide) (by decide) (by decide) (by decide), s1s, s1n _ _ (by decide)]
  refine ⟨?_, rfl⟩
  unfold f_fail1
  split
  · rw [count_5, s1s]
  · split
    · split
      · rw [count_5, s1s]
      · exact s1s _ _ _
    · exact s1s _ _ _
/-- a step of both sides -/
theorem step_sim {c : Nat} {T S : XS} (hc : c < 40000) (h : Sim c T S) (h18 : ¬ S.1 18 = 0) : Sim (c + 2) (g_step T) (f_step S) ∧ f_stepR S = g_stepR T ∧ (f_stepR S = 0 ∨ f_stepR S = 1) ∧ (g_stepR T = 0 → (f_step S).1 18 = 0) ∧ stepOk (f_begin S) ∧ vp_in ((f_phase (f_begin S)).2 0 0) 16 ∧ stOk (T.1 17) ∧ (∀ cd sz, T.2 12 = cd → T.2 13 = sz → stepOkC cd sz (g_pre T)) ∧ failOkC (g_actS (g_pay (g_pre T) (g_cost (g_pre T)))) ∧ Kp T (g_step T) := by
  obtain ⟨b1, b2, b3, b4⟩ := begin_sim h h18
  have st : stOk (T.1 17) := by
    rcases (h.2.2.live h18).stage with q | q | q | q
    · exact Or.inr (Or.inl q)
    · exact Or.inr (Or.inr (Or.inl q))
    · exact Or.inr (Or.inr (Or.inr (Or.inl q)))
    · exact Or.inr (Or.inr (Or.inr (Or.inr q)))
  obtain ⟨Y, y1, y2, y3, y4, y5, y6⟩ := act_step hc b1 b2 b3
  have kp : Kp T (g_step T) := Kp.step1 b4
  have e0 : (g_pre T).1 0 = (f_begin S).1 0 := b1.2.1 0 (by omega)
  obtain ⟨f5, f18⟩ := fail_at (f_begin S)
  have fs := fail_sim (by omega) b1 b2 b3.live
  by_cases q : g_cost (g_pre T) ≤ (f_begin S).1 0
  · rw [if_pos q] at y4
    have eR : f_stepR S = 1 := by unfold f_stepR; rw [y4, if_pos y2]
    have eG : g_stepR T = 1 := by unfold g_stepR g_step1R; rw [e0, if_pos q]
    have eS : f_step S = f_cut Y := by unfold f_step; rw [y4, if_pos y2]
    have eT : g_step T = g_cut (g_actS (g_pay (g_pre T) (g_cost (g_pre T)))) := by unfold g_step g_step1; rw [e0, if_pos q]
    refine ⟨?_, eR.trans eG.symm, Or.inr eR, fun z => absurd (eG.symm.trans z) (by decide), y5, ?_, st, fun cd sz a b => y6 cd sz (b4.1.trans a) (b4.2.1.trans b), y1.failOk y3, kp⟩
    · rw [eS, eT]; exact cut_sim (by omega) y1 y3
    · rw [y4]; exact y1.1.2.2.2.2.2.2.2.2
  · rw [if_neg q] at y4
    have ne : ¬ (f_fail (f_begin S)).1 5 = (f_begin S).1 5 := by rw [f5]; exact succ_ne _
    have eR : f_stepR S = 0 := by unfold f_stepR; rw [y4, if_neg ne]
    have eG : g_stepR T = 0 := by unfold g_stepR g_step1R; rw [e0, if_neg q]
    have eS : f_step S = f_fail (f_begin S) := by unfold f_step; rw [y4, if_neg ne]
    have eT : g_step T = g_fail (g_pre T) := by unfold g_step g_step1; rw [e0, if_neg q]
    refine ⟨?_, eR.trans eG.symm, Or.inl eR, fun _ => by rw [eS]; exact f18, y5, ?_, st, fun cd sz a b => y6 cd sz (b4.1.trans a) (b4.2.1.trans b), y1.failOk y3, kp⟩
    · rw [eS, eT]; exact fs.1.mono (by omega)
    · rw [y4]; exact fs.1.1.2.2.2.2.2.2.2.2
