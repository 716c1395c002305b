/-! THE PLAIN LAW, tenth part: a step of an attempt, whole -/
set_option maxRecDepth 100000
theorem Base.s9 {c : Nat} {T S : XS} (h : Base c T S) (v : Int32) : Base c (xs T 9 v) (xs S 9 v) := by
  obtain ⟨b1, b2, b3, b4, b5, b6, b7, b8, b9⟩ := h
  have ag := Ag.s (⟨b1, b2⟩ : Ag T S) 9 v
  exact ⟨ag.1, ag.2, b3, b4, b5, b6, b7, b8, b9⟩
theorem Base.s6 {c : Nat} {T S : XS} (h : Base c T S) (v : Int32) : Base c (xs T 6 v) (xs S 6 v) := by
  obtain ⟨b1, b2, b3, b4, b5, b6, b7, b8, b9⟩ := h
  have ag := Ag.s (⟨b1, b2⟩ : Ag T S) 6 v
  exact ⟨ag.1, ag.2, b3, b4, b5, b6, b7, b8, b9⟩
theorem est_mono {c : Nat} {S : XS} (h : ∀ t, t < 16 → ∃ x, S.2 6 t = nI x ∧ x ≤ 2000 + 10 * c) : ∀ t, t < 16 → ∃ x, S.2 6 t = nI x ∧ x ≤ 2000 + 10 * (c + 1) := fun t ht => by
  obtain ⟨x, x1, x2⟩ := h t ht
  exact ⟨x, x1, by omega⟩
/-- the attempt ends: a commit begins -/
theorem run0_sim {c p i : Nat} {T S : XS} {a : Int32} (hb : Base c T S) (hr : allR S) (h5 : T.1 12 = S.1 12) (h6 : T.1 15 = S.2 0 0) (h7 : S.1 7 = 0) (h8 : S.2 0 2 = 0) (h9 : kOK c (S.2 13) (S.2 0)) (pd : PD S p) (p38 : p ≤ 38) (kv : kOK c (S.2 13) (view S)) (hj : ∃ j, j < 16 ∧ a = nI j ∧ ¬ S.2 13 j = 0) : Sim c (g_cbegin (xs T 9 (nI i)) a) (f_com (xs S 9 (nI i)) a) := by
  have ag : Ag T S := ⟨hb.1, hb.2.1⟩
  have pdT : PD (xs T 9 (nI i)) p := by
    refine ⟨?_, ?_⟩
    · rw [s1n _ _ (by decide), h5]; exact pd.1
    · rw [s2, hb.1 2 (by decide)]; exact pd.2
  have ep : ix (S.1 12) = p := by rw [pd.1]; exact nI_clamp (by omega)
  have ep1 : ix (S.1 12 + 1) = p + 1 := by rw [pd.1, nI_1]; exact nI_clamp (by omega)
  rw [cbegin_eq pdT p38]
  have ef : f_com (xs S 9 (nI i)) a = xs (xa (xa (xa (xa (xs (xs S 9 (nI i)) 18 4) 2 p 0) 3 p a) 2 (p + 1) 1) 3 (p + 1) (S.2 0 1 + 1)) 11 0 := by
    unfold f_com
    rw [s1n S (nI i) (show 12 ≠ 9 by decide), ep, ep1, s2]
  rw [ef, s2, hb.1 0 (by decide)]
  obtain ⟨j, j1, j2, j3⟩ := hj
  have ent := com_ent (x := a) (y := S.2 0 1 + 1) pd p38 kv j1 j2 j3
  have ag' := (((((((((ag.s 9 (nI i)).sl (k := 12) (nI (p + 1)) (by omega)).sr (k := 18) 4 (by omega)).a 2 p 0).a 3 p a).sl (k := 12) (nI (p + 2)) (by omega)).a 2 (p + 1) 1).a 3 (p + 1) (S.2 0 1 + 1)).s 11 0).sl (k := 17) 9 (by omega)
  obtain ⟨b1, b2, b3, b4, b5, b6, b7, b8, b9⟩ := hb
  refine ⟨⟨ag'.1, ag'.2, b3, b4, b5, b6, b7, b8, b9⟩, hr, Or.inr (Or.inr (Or.inr (Or.inr ⟨rfl, rfl, h7, p, 0, p38, pd.1, rfl, rfl, rfl, by omega, ent, fun q hq => absurd hq (by omega), fun _ => ⟨h8, h9, h6⟩, fun hq => absurd hq (by omega)⟩)))⟩
/-- an attempt's bound -/
theorem run17_sim {c i : Nat} {T S : XS} {a : Int32} (hb : Base c T S) (hr : allR S) (hp : pRun c T S) (hi : ∃ t, S.2 0 0 = nI t ∧ t < 16 ∧ i < ix (S.2 13 t)) : Sim c (g_bound (xs T 9 (nI i)) a) (f_bound (xs S 9 (nI i)) a) ∧ (f_bound (xs S 9 (nI i)) a).1 5 = S.1 5 ∧ (f_bound (xs S 9 (nI i)) a).1 3 = S.1 3 ∧ ¬ (f_bound (xs S 9 (nI i)) a).1 18 = 0 := by
  obtain ⟨h1, h2, h3, h4, h5, h6, h7, h8, h9, h10, _⟩ := hp
  obtain ⟨t, t1, t2, t3⟩ := hi
  have stay : Sim c (xs T 9 (nI i)) (xs S 9 (nI i)) := ⟨hb.s9 _, hr, Or.inr (Or.inr (Or.inr (Or.inl ⟨h1, h2, rfl, h4, h5, h6, h7, h8, h9, h10, t, i, t2, t1, rfl, t3⟩)))⟩
  have go : Sim c (g_aband (xs T 9 (nI i))) (f_leave (xs (xs S 9 (nI i)) 6 ((xs S 9 (nI i)).1 6 + 1))) := by
    unfold g_aband
    have e6 : (xs T 9 (nI i)).1 6 = (xs S 9 (nI i)).1 6 := hb.2.1 6 (by omega)
    rw [e6]
    exact leave_sim ((hb.s9 (nI i)).s6 _) hr h8 h9
  have e10 : (xs T 9 (nI i)).1 10 = (xs S 9 (nI i)).1 10 := h4
  have e1 : (xs T 9 (nI i)).1 1 = (xs S 9 (nI i)).1 1 := hb.2.1 1 (by omega)
  have n18 : ¬ S.1 18 = 0 := by rw [h1]; decide
  obtain ⟨l1, l2, l3, l4, l5, _⟩ := leave_at T (xs (xs S 9 (nI i)) 6 ((xs S 9 (nI i)).1 6 + 1))
  unfold g_bound f_bound
  rw [e10, e1]
  split
  · exact ⟨stay, rfl, rfl, n18⟩
  · split
    · exact ⟨stay, rfl, rfl, n18⟩
    · refine ⟨go, ?_, ?_, ?_⟩
      · exact l5 5 (by decide) (by decide) (by decide) (by decide) (by decide) (by decide) (by decide)
      · exact l5 3 (by decide) (by decide) (by decide) (by decide) (by decide) (by decide) (by decide)
      · rw [l3]; decide
/-- an instruction that goes on -/
theorem runA_sim {c i : Nat} {T S : XS} {w : Int32} (hc : c < 50000) (hb : Base c T S) (hr : allR S) (hp : pRun c T S) (hE : E T S) (hw : wOk w) (h0 : ¬ f_op w = 0) (hle : (f_op w).toInt ≤ 16) (ht : ∃ t, S.2 0 0 = nI t ∧ t < 16 ∧ (¬ f_op w = 7 → i < ix (S.2 13 t)) ∧ (f_op w = 6 ∨ f_op w = 7 → ∃ j, f_b w = nI j ∧ j < ix (S.2 13 t))) : Sim (c + 1) (g_act (xs T 9 (nI i)) (f_op w) (f_a w) (f_b w) (f_c w)) (f_act (xs S 9 (nI i)) (f_op w) (f_a w) (f_b w) (f_c w)) ∧ (f_act (xs S 9 (nI i)) (f_op w) (f_a w) (f_b w) (f_c w)).1 5 = S.1 5 ∧ (f_act (xs S 9 (nI i)) (f_op w) (f_a w) (f_b w) (f_c w)).1 3 = S.1 3 ∧ ¬ (f_act (xs S 9 (nI i)) (f_op w) (f_a w) (f_b w) (f_c w)).1 18 = 0 := by
  obtain ⟨h1, h2, h3, h4, h5, h6, h7, h8, h9, h10, _⟩ := hp
  obtain ⟨t, t1, t2, t3, t4⟩ := ht
  have h2' : 0 ≤ (f_op w).toInt := by
    obtain ⟨j, hj, e⟩ := f_op_nn w
    rw [e, nI_toInt (by omega)]; omega
  have hE' := hE.s 9 (nI i)
  have pvU : PV c (S.2 13) (xs S 9 (nI i)) := h10
  have same : g_act (xs T 9 (nI i)) (f_op w) (f_a w) (f_b w) (f_c w) = f_act (xs T 9 (nI i)) (f_op w) (f_a w) (f_b w) (f_c w) := by
    refine act_same h0 (f_b_nn w) (f_c_nn w) (fun q => ?_) (fun q => ?_) hle h2'
    · obtain ⟨j, hj, ej⟩ := vp_in_of (w_b2 hw (by rcases q with e | e <;> rw [e] <;> decide)) (by decide)
      obtain ⟨p, pd, p38, kv⟩ := h10
      obtain ⟨f, m, f1, m1, f2, m2⟩ := kv.2.1 j hj
      refine ⟨m, m1, ?_⟩
      rw [hE'.see, ej, q_num.2.1]
      exact m2
    · obtain ⟨d, d1, d2⟩ := (pvU.send (v := 0) (by omega)).1
      refine ⟨d, d1, ?_⟩
      rw [hE'.see, hE'.1 0 (by decide)]
      exact d2
  rw [same]
  have eA := hE'.act (a := f_a w) (b := f_b w) (c := f_c w) h0 hle h2'
  obtain ⟨fr, fn⟩ := act_fr (xs S 9 (nI i)) (a := f_a w) (b := f_b w) (c := f_c w) h0 hle h2'
  obtain ⟨frT, _⟩ := act_fr (xs T 9 (nI i)) (a := f_a w) (b := f_b w) (c := f_c w) h0 hle h2'
  have pv := act_PV (w := w) pvU (by omega) hw h0 hle
  generalize f_act (xs T 9 (nI i)) (f_op w) (f_a w) (f_b w) (f_c w) = X at *
  generalize f_act (xs S 9 (nI i)) (f_op w) (f_a w) (f_b w) (f_c w) = Y at *
  obtain ⟨b1, b2, b3, b4, ⟨hd, s, d1, d2, d3, d4, d5, d6⟩, b6, ⟨y, y1, y2⟩, ⟨x, x1, x2⟩, b9⟩ := hb
  have k0 : Y.2 0 = S.2 0 := fr.1 0 (by decide) (by decide) (by decide)
  have k6 : Y.2 6 = S.2 6 := fr.1 6 (by decide) (by decide) (by decide)
  have k11 : Y.2 11 = S.2 11 := fr.1 11 (by decide) (by decide) (by decide)
  have k12 : Y.2 12 = S.2 12 := fr.1 12 (by decide) (by decide) (by decide)
  have k13 : Y.2 13 = S.2 13 := fr.1 13 (by decide) (by decide) (by decide)
  have sc : ∀ q, q ≠ 9 → q ≠ 10 → q ≠ 12 → Y.1 q = S.1 q := fun q a b d => (fr.2 q a b d).trans (s1n _ _ a)
  have scT : ∀ q, q ≠ 9 → q ≠ 10 → q ≠ 12 → X.1 q = T.1 q := fun q a b d => (frT.2 q a b d).trans (s1n _ _ a)
  have nx : ∃ j, Y.1 9 = nI j ∧ j < ix (S.2 13 t) := by
    rcases fn with ⟨e, ne⟩ | ⟨o, e⟩
    · exact ⟨i, e.trans (s1s _ _ _), t3 ne⟩
    · obtain ⟨j, j1, j2⟩ := t4 o
      exact ⟨j, e.trans j1, j2⟩
  obtain ⟨j, j1, j2⟩ := nx
  refine ⟨⟨⟨eA.1, fun q hq => eA.2 q (by omega), ?_, b4.congr k13, ⟨hd, s, ?_, d2, ?_, ?_, by omega, ?_⟩, ?_, ⟨y, ?_, by omega⟩, ⟨x, ?_, by omega⟩, ?_⟩, hr.congr k12 k13, Or.inr (Or.inr (Or.inr (Or.inl ⟨?_, ?_, eA.2 9 (by omega), eA.2 10 (by omega), eA.2 12 (by omega), ?_, ?_, ?_, ?_, ?_, t, j, t2, ?_, j1, ?_⟩)))⟩, sc 5 (by decide) (by decide) (by decide), sc 3 (by decide) (by decide) (by decide), ?_⟩
  · rw [scT 15 (by decide) (by decide) (by decide)]; exact b3
  · rw [k0]; exact d1
  · rw [scT 16 (by decide) (by decide) (by decide)]; exact d3
  · rw [k11]; exact d4
  · rw [sc 7 (by decide) (by decide) (by decide)]; exact d6
  · rw [k6]; exact est_mono b6
  · rw [sc 2 (by decide) (by decide) (by decide)]; exact y1
  · rw [sc 13 (by decide) (by decide) (by decide)]; exact x1
  · rw [k0]; exact b9
  · rw [sc 18 (by decide) (by decide) (by decide)]; exact h1
  · rw [scT 17 (by decide) (by decide) (by decide)]; exact h2
  · rw [scT 15 (by decide) (by decide) (by decide), k0]; exact h6
  · rw [sc 7 (by decide) (by decide) (by decide)]; exact h7
  · rw [k0]; exact h8
  · rw [k0, k13]; exact h9.mono (Nat.le_succ c)
  · rw [k13]; exact pv
  · rw [k0]; exact t1
  · rw [k13]; exact j2
  · rw [sc 18 (by decide) (by decide) (by decide), h1]; decide
set_option maxHeartbeats 4000000 in
theorem run_sim {c : Nat} {T S : XS} (hc : c < 50000) (hb : Base c T S) (hr : allR S) (hp : pRun c T S) : Sim (c + 1) (g_run T) (f_runP S (f_word S)) ∧ runOk S ∧ (runOk T ∧ vp_in (T.2 0 0) 16 ∧ vp_in (T.1 9) (ix (T.2 13 (ix (T.2 0 0))))) ∧ (f_runP S (f_word S)).1 5 = S.1 5 ∧ (f_runP S (f_word S)).1 3 = S.1 3 ∧ ¬ (f_runP S (f_word S)).1 18 = 0 ∧ f_word T = f_word S := by
  have hb0 := hb
  obtain ⟨b1, b2, b3, b4, ⟨hd, s, d1, d2, d3, d4, d5, d6⟩, b6, ⟨y, y1, y2⟩, ⟨x, x1, x2⟩, b9⟩ := hb
  obtain ⟨h1, h2, h3, h4, h5, h6, h7, h8, h9, h10, t, i, t1, t2, t3, t4⟩ := hp
  have hE : E T S := ⟨b1, fun k hk => by
    rcases (show k ≤ 8 ∨ k = 9 ∨ k = 10 ∨ k = 12 ∨ k = 13 ∨ k = 14 by omega) with q | q | q | q | q | q
    · exact b2 k (by omega)
    · rw [q]; exact h3
    · rw [q]; exact h4
    · rw [q]; exact h5
    · exact b2 k (by omega)
    · exact b2 k (by omega)⟩
  obtain ⟨z, z1, z2⟩ := b4 t t1
  have ez : ix (S.2 13 t) = z := by rw [z2]; exact nI_clamp (by omega)
  have et : ix (nI t) = t := nI_clamp (by omega)
  have ew : f_word S = S.2 12 (32 * t + i) := by
    unfold f_word
    rw [t2, t3, prog_ixc t1 (by omega)]
  have ewT : f_word T = f_word S := by
    unfold f_word
    rw [b1 12 (by decide), b1 0 (by decide), h3]
  have rf := right_facts b4 t1 t4 (hr t i t1 t4)
  rw [← ew] at rf
  obtain ⟨hw, hnx, hjmp, hend⟩ := rf
  rw [ez] at hnx hjmp
  obtain ⟨p, pd, p38, kv⟩ := h10
  have ok : runOk S := by
    refine ⟨?_, ⟨p, p38, pd.1⟩, hw, fun b hb => ?_⟩
    · rw [t2, t3, show (32 : Int32) = nI 32 from rfl, pk_mul, nI_add]
      exact vp_in_nI (by omega) (by decide)
    · obtain ⟨j, hj, rfl⟩ := vp_in_of hb (by decide)
      obtain ⟨f, m, f1, m1, f2, m2⟩ := kv.2.1 j hj
      rw [q_num.1, show f_see S (nI (56 + 6 * j)) = nI f from f2]
      exact vp_in_nI f1 (by decide)
  have okT : runOk T ∧ vp_in (T.2 0 0) 16 ∧ vp_in (T.1 9) (ix (T.2 13 (ix (T.2 0 0)))) := by
    refine ⟨⟨?_, ?_, ?_, fun b hb => ?_⟩, ?_, ?_⟩
    · rw [b1 0 (by decide), h3]; exact ok.1
    · unfold pOk; rw [h5]; exact ok.2.1
    · rw [ewT]; exact hw
    · rw [hE.see]; exact ok.2.2.2 b hb
    · rw [b1 0 (by decide)]; exact b9
    · rw [b1 0 (by decide), b1 13 (by decide), h3, t2, et, ez, t3]; exact vp_in_nI (by omega) (by omega)
  have hp0 : pRun c T S := ⟨h1, h2, h3, h4, h5, h6, h7, h8, h9, ⟨p, pd, p38, kv⟩, t, i, t1, t2, t3, t4⟩
  have eg : g_run T = g_act (xs T 9 (nI (i + 1))) (f_op (f_word S)) (f_a (f_word S)) (f_b (f_word S)) (f_c (f_word S)) := by
    unfold g_run
    rw [ewT, h3, t3, nI_1]
  have ef : f_runP S (f_word S) = f_act (xs S 9 (nI (i + 1))) (f_op (f_word S)) (f_a (f_word S)) (f_b (f_word S)) (f_c (f_word S)) := by
    unfold f_runP
    rw [t3, nI_1]
  have key : Sim (c + 1) (g_run T) (f_runP S (f_word S)) ∧ (f_runP S (f_word S)).1 5 = S.1 5 ∧ (f_runP S (f_word S)).1 3 = S.1 3 ∧ ¬ (f_runP S (f_word S)).1 18 = 0 := by
    rw [eg, ef]
    generalize f_word S = w at *
    by_cases c0 : f_op w = 0
    · have f0 : ∀ U a b d, f_act U (f_op w) a b d = f_com U a := fun U a b d => by unfold f_act; rw [if_pos c0]
      have g0 : ∀ U a b d, g_act U (f_op w) a b d = g_cbegin U a := fun U a b d => by unfold g_act; rw [if_pos c0]
      rw [f0, g0]
      exact ⟨(run0_sim hb0 hr h5 h6 h7 h8 h9 pd p38 kv (hend c0)).mono (Nat.le_succ c), rfl, rfl, by show ¬ (4 : Int32) = 0; decide⟩
    · by_cases c17 : (f_op w).toInt ≤ 16
      · exact runA_sim hc hb0 hr hp0 hE hw c0 c17 ⟨t, t2, t1, fun n7 => by rw [ez]; exact hnx c0 n7, fun q => by rw [ez]; exact hjmp q⟩
      · rw [f_act_out (by omega), g_act_out (by omega)]
        have n7 : ¬ f_op w = 7 := fun q => c17 (by rw [q]; decide)
        obtain ⟨q1, q2⟩ := run17_sim (i := i + 1) (a := f_a w) hb0 hr hp0 ⟨t, t2, t1, by rw [ez]; exact hnx c0 n7⟩
        exact ⟨q1.mono (Nat.le_succ c), q2⟩
  exact ⟨key.1, ok, okT, key.2.1, key.2.2.1, key.2.2.2, ewT⟩
