/-! THE PLAIN LAW, twelfth part: a step -/
set_option maxRecDepth 100000
/-! the program's arrays stay -/
def Kp (U X : XS) : Prop := X.2 12 = U.2 12 ∧ X.2 13 = U.2 13 ∧ X.1 14 = U.1 14
section KK
variable {U X : XS}
theorem Kp.rf (U : XS) : Kp U U := ⟨rfl, rfl, rfl⟩
theorem Kp.tr {V : XS} (h : Kp U X) (g : Kp X V) : Kp U V := ⟨g.1.trans h.1, g.2.1.trans h.2.1, g.2.2.trans h.2.2⟩
theorem Kp.s (h : Kp U X) (k : Nat) (v : Int32) (hk : 14 ≠ k := by decide) : Kp U (xs X k v) := ⟨h.1, h.2.1, (s1n _ _ hk).trans h.2.2⟩
theorem Kp.a (h : Kp U X) {j : Nat} (i : Nat) (v : Int32) (hj : j < 12) : Kp U (xa X j i v) := ⟨(a2n _ _ _ (by omega)).trans h.1, (a2n _ _ _ (by omega)).trans h.2.1, h.2.2⟩
theorem Kp.w (h : Kp U X) (a v : Int32) : Kp U (f_write X a v) := (h.a _ _ (by omega)).a _ _ (by omega)
theorem Kp.put (h : Kp U X) (a v : Int32) : Kp U (f_put X a v) := by
  unfold f_put
  split
  · exact ((h.s _ _).a _ _ (by omega)).a _ _ (by omega)
  · exact h.a _ _ (by omega)
theorem Kp.clr (h : Kp U X) : Kp U (f_clr X 8 0) := by
  obtain ⟨c1, c2, _⟩ := clr_at 8 0 X
  exact ⟨(c2 12 (by decide)).trans h.1, (c2 13 (by decide)).trans h.2.1, by rw [c1]; exact h.2.2⟩
theorem Kp.clear (h : Kp U X) : Kp U (g_clear X) := ((h.s 2 0).s 12 0).clr
theorem Kp.leave (h : Kp U X) : Kp U (g_leave X) := ((h.s 17 7).s 7 0).clear
theorem Kp.rep (h : Kp U X) : Kp U (g_rep X) := by
  unfold g_rep
  split
  · exact (h.w _ _).s _ _
  · exact (h.w _ _).s _ _
theorem Kp.out (h : Kp U X) (n x : Int32) : Kp U (g_out X n x) := by
  unfold g_out g_far
  split
  · exact ((((h.a _ _ (by omega)).a _ _ (by omega)).s _ _).a _ _ (by omega)).s _ _
  · exact ((h.a _ _ (by omega)).a _ _ (by omega)).s _ _
theorem Kp.air (h : Kp U X) : Kp U (g_air X) := by
  unfold g_air g_tog g_air0
  refine Kp.s ?_ _ _ (by decide)
  split
  · exact h.out _ _
  · exact h.w _ _
theorem Kp.store (h : Kp U X) (a v : Int32) : Kp U (g_store X a v) := by
  unfold g_store
  split
  · exact h
  · exact h.put _ _
theorem Kp.push (h : Kp U X) (a v : Int32) : Kp U (g_push X a v) := by
  unfold g_push g_push2
  split
  · exact h.a _ _ (by omega)
  · split
    · exact h.a _ _ (by omega)
    · exact ((h.put _ _).put _ _).a _ _ (by omega)
theorem Kp.pop (h : Kp U X) (a r : Int32) : Kp U (g_pop X a r) := by
  have h0 : ∀ m, Kp U (g_pop0 X m r) := fun m => by
    unfold g_pop0
    split
    · exact (h.a _ _ (by omega)).a _ _ (by omega)
    · exact h.a _ _ (by omega)
  unfold g_pop g_pop1
  split
  · exact h0 _
  · split
    · exact h0 _
    · exact (((h.a _ _ (by omega)).put _ _).put _ _).a _ _ (by omega)
theorem Kp.send (h : Kp U X) (v : Int32) : Kp U (g_send X v) := by
  unfold g_send g_send2
  split
  · exact h.a _ _ (by omega)
  · split
    · exact h.a _ _ (by omega)
    · exact ((h.put _ _).put _ _).a _ _ (by omega)
theorem Kp.bound (h : Kp U X) (x : Int32) : Kp U (g_bound X x) := by
  unfold g_bound g_aband
  split
  · exact h
  · split
    · exact h
    · exact (h.s _ _).leave
theorem Kp.ite {p : Prop} [Decidable p] {A B : XS} (a : Kp U A) (b : Kp U B) : Kp U (if p then A else B) := by
  split
  · exact a
  · exact b
theorem Kp.act (h : Kp U X) (o a b c : Int32) : Kp U (g_act X o a b c) := (Kp.ite (((((h.put _ _).put _ _).s _ _).s _ _)) (Kp.ite (h.a _ _ (by omega)) (Kp.ite (h.a _ _ (by omega)) (Kp.ite (h.a _ _ (by omega)) (Kp.ite (h.a _ _ (by omega)) (Kp.ite (h.a _ _ (by omega)) (Kp.ite (Kp.ite (h.s _ _) (h.s _ _)) (Kp.ite (h.s _ _) (Kp.ite (h.a _ _ (by omega)) (Kp.ite (h.store _ _) (Kp.ite (h.a _ _ (by omega)) (Kp.ite (h.store _ _) (Kp.ite (h.push _ _) (Kp.ite (h.pop _ _) (Kp.ite (h.a _ _ (by omega)) (Kp.ite (h.send _) (Kp.ite (h.s _ _) (h.bound _))))))))))))))))))
theorem Kp.done (h : Kp U X) : Kp U (g_done X) := by
  unfold g_done g_succ g_succ1
  exact (((h.w _ _).a _ _ (by omega)).a _ _ (by omega)).leave
theorem Kp.com (h : Kp U X) : Kp U (g_com X) := by
  unfold g_com g_inc g_com2
  refine Kp.s ?_ _ _ (by decide)
  split
  · split
    · exact h.w _ _
    · split
      · exact h.done
      · exact h.w _ _
  · exact h.w _ _
theorem Kp.actS (h : Kp U X) : Kp U (g_actS X) := by
  unfold g_actS
  split
  · exact h.rep
  · split
    · exact h.air
    · split
      · exact (h.s _ _).act _ _ _ _
      · exact h.com
theorem Kp.fail (h : Kp U X) : Kp U (g_fail X) := by
  have h5 := h.s 5 (X.1 5 + 1)
  have hc : Kp U (g_count (xs X 5 (X.1 5 + 1))) := by
    unfold g_count g_count3
    split
    · exact ((h5.a _ _ (by omega)).a _ _ (by omega)).s _ _
    · exact (h5.a _ _ (by omega)).a _ _ (by omega)
  unfold g_fail g_fail1
  refine Kp.clear (Kp.s ?_ _ _ (by decide))
  split
  · exact h5
  · exact hc
theorem Kp.cut (h : Kp U X) : Kp U (g_cut X) := by
  unfold g_cut
  split
  · exact h
  · split
    · exact (h.s _ _).fail
    · exact h.s _ _
theorem Kp.step1 (h : Kp U X) : Kp U (g_step1 X) := by
  unfold g_step1
  split
  · exact (((h.s _ _).s _ _ : Kp U (g_pay X (g_cost X))).actS).cut
  · exact h.fail
end KK
theorem Base.s3 {c : Nat} {T S : XS} (h : Base c T S) (v : Int32) : Base c (xs T 3 v) (xs S 3 v) := by
  obtain ⟨b1, b2, b3, b4, b5, b6, b7, b8, b9⟩ := h
  have ag := Ag.s (⟨b1, b2⟩ : Ag T S) 3 v
  exact ⟨ag.1, ag.2, b3, b4, b5, b6, b7, b8, b9⟩
def Live (c : Nat) (T S : XS) : Prop := pRep c T S ∨ pAir c T S ∨ pRun c T S ∨ pCom c T S
theorem Phase.live {c : Nat} {T S : XS} (h : Phase c T S) (h18 : ¬ S.1 18 = 0) : Live c T S := by
  rcases h with h | h
  · exact absurd h.1 h18
  · exact h
theorem Live.phase {c : Nat} {T S : XS} (h : Live c T S) : Phase c T S := Or.inr h
theorem Live.s3 {c : Nat} {T S : XS} (h : Live c T S) (v : Int32) : Live c (xs T 3 v) (xs S 3 v) := by
  rcases h with h | h | h | h
  · exact Or.inl h
  · exact Or.inr (Or.inl h)
  · exact Or.inr (Or.inr (Or.inl h))
  · exact Or.inr (Or.inr (Or.inr h))
theorem Live.stage {c : Nat} {T S : XS} (h : Live c T S) : stage4 (T.1 17) := by
  rcases h with h | h | h | h
  · exact Or.inl h.2.1
  · exact Or.inr (Or.inl h.2.1)
  · exact Or.inr (Or.inr (Or.inl h.2.1))
  · exact Or.inr (Or.inr (Or.inr h.2.1))
theorem Sim.failOk {c : Nat} {T S : XS} (h : Sim c T S) (h18 : ¬ S.1 18 = 0) : failOkC T := ⟨(h.2.2.live h18).stage, h.1.2.2.1⟩
theorem cut_sim {c : Nat} {T S : XS} (hc : c < 100000) (h : Sim c T S) (h18 : ¬ S.1 18 = 0) : Sim c (g_cut T) (f_cut S) := by
  have lv := h.2.2.live h18
  have e3 : T.1 3 = S.1 3 := h.1.2.1 3 (by omega)
  have e3' : ∀ v, (xs T 3 v).1 3 = v := fun v => s1s _ _ _
  have f3' : ∀ v, (xs S 3 v).1 3 = v := fun v => s1s _ _ _
  unfold g_cut f_cut
  rw [e3, e3', f3']
  split
  · exact h
  · split
    · exact (fail_sim hc (h.1.s3 _) h.2.1 (lv.s3 _)).1
    · exact ⟨h.1.s3 _, h.2.1, (lv.s3 _).phase⟩
/-- the air's end: an attempt begins -/
def Ready (c : Nat) (T S : XS) : Prop := pRep c T S ∨ (pAir c T S ∧ (S.1 7 = 1 ∨ ¬ S.2 0 4 = S.2 0 3)) ∨ pRun c T S ∨ pCom c T S
theorem Ready.live {c : Nat} {T S : XS} (h : Ready c T S) : Live c T S := by
  rcases h with h | h | h | h
  · exact Or.inl h
  · exact Or.inr (Or.inl h.1)
  · exact Or.inr (Or.inr (Or.inl h))
  · exact Or.inr (Or.inr (Or.inr h))
theorem new_run {c : Nat} {T S : XS} (hb : Base c T S) (hr : allR S) (hp : pAir c T S) (h7 : S.1 7 = 0) : Base c (g_nbegin T) (xs (f_end S) 18 3) ∧ allR (xs (f_end S) 18 3) ∧ pRun c (g_nbegin T) (xs (f_end S) 18 3) := by
  obtain ⟨b1, b2, b3, b4, ⟨hd, s, d1, d2, d3, d4, d5, d6⟩, b6, b7, b8, b9⟩ := hb
  obtain ⟨p1, p2, p3, p4, p5, p6⟩ := hp
  have ag : Ag T S := ⟨b1, b2⟩
  obtain ⟨e1, e2, e3, e4, e5, e6, e7⟩ := end_at S
  obtain ⟨g1, g2, g3, g4⟩ := gclear_at T
  have ag1 := (((((ag.end_.sl (k := 15) ((g_clear T).2 0 0) (by omega)).sl (k := 9) 0 (by omega)).sl (k := 10) (-1) (by omega)).sl (k := 17) 8 (by omega)).sr (k := 18) 3 (by omega))
  have k0 : (xs (f_end S) 18 3).2 0 = S.2 0 := e1 0 (by decide)
  have k6 : (xs (f_end S) 18 3).2 6 = S.2 6 := e1 6 (by decide)
  have k11 : (xs (f_end S) 18 3).2 11 = S.2 11 := e1 11 (by decide)
  have k12 : (xs (f_end S) 18 3).2 12 = S.2 12 := e1 12 (by decide)
  have k13 : (xs (f_end S) 18 3).2 13 = S.2 13 := e1 13 (by decide)
  have s7 : (xs (f_end S) 18 3).1 7 = S.1 7 := e7 7 (by decide) (by decide) (by decide) (by decide) (by decide)
  have s13 : (xs (f_end S) 18 3).1 13 = S.1 13 := e7 13 (by decide) (by decide) (by decide) (by decide) (by decide)
  have s2 : (xs (f_end S) 18 3).1 2 = 0 := e3
  have s12 : (xs (f_end S) 18 3).1 12 = nI 0 := e4
  have t0 : (g_clear T).2 0 = S.2 0 := (g1 0 (by decide)).trans (b1 0 (by decide))
  have t15 : (g_nbegin T).1 15 = S.2 0 0 := by
    show (g_clear T).2 0 0 = _
    rw [t0]
  have t16 : (g_nbegin T).1 16 = T.1 16 := g4 16 (by decide) (by decide)
  obtain ⟨t, t1, t2, t3⟩ := p5.1
  obtain ⟨z, z1, z2⟩ := b4 t t1
  refine ⟨⟨ag1.1, ag1.2, ?_, b4.congr k13, ⟨hd, s, ?_, d2, ?_, ?_, d5, ?_⟩, ?_, ⟨0, ?_, by omega⟩, ?_, ?_⟩, hr.congr k12 k13, ⟨rfl, rfl, ?_, ?_, ?_, ?_, ?_, ?_, ?_, ?_, t, 0, t1, ?_, ?_, ?_⟩⟩
  · rw [t15]; exact b9
  · rw [k0]; exact d1
  · rw [t16]; exact d3
  · rw [k11]; exact d4
  · rw [s7]; exact d6
  · rw [k6]; exact b6
  · rw [s2]; rfl
  · rw [s13]; exact b8
  · rw [k0]; exact b9
  · show (0 : Int32) = (f_end S).1 9
    rw [e5]
  · show (-1 : Int32) = (f_end S).1 10
    rw [e6]
  · show (g_clear T).1 12 = (f_end S).1 12
    rw [g3, e4]
  · rw [t15, k0]
  · rw [s7]; exact h7
  · rw [k0]; exact p4
  · rw [k0, k13]; exact p5
  · refine ⟨0, ⟨s12, fun e he => absurd he (by omega), fun e e' he => absurd he (by omega)⟩, by omega, ?_⟩
    have hv : ∀ a, a < 1000 → view (xs (f_end S) 18 3) a = S.2 0 a := fun a ha => by
      unfold view
      rw [see_fv s12 (by decide)]
      unfold fv
      have ff : f_find ((xs (f_end S) 18 3).2 2) (nI a) 0 0 = -1 := rfl
      rw [if_pos ff, show ix (nI a) = a from nI_clamp (by omega), k0]
    rw [k13]
    exact p5.congr (hv 0 (by omega)) (hv 3 (by omega)) (hv 4 (by omega)) (fun b hb => ⟨hv _ (by omega), hv _ (by omega)⟩)
  · rw [k0]; exact t2
  · show (f_end S).1 9 = _
    rw [e5]; rfl
  · rw [k13, z2, show ix (nI z) = z from nI_clamp (by omega)]
    rcases Nat.eq_zero_or_pos z with q | q
    · exact absurd (z2.trans (by rw [q]; rfl)) t3
    · exact q
theorem begin_sim {c : Nat} {T S : XS} (h : Sim c T S) (h18 : ¬ S.1 18 = 0) : Base c (g_pre T) (f_begin S) ∧ allR (f_begin S) ∧ Ready c (g_pre T) (f_begin S) ∧ Kp T (g_pre T) := by
  obtain ⟨hb, hr, hp⟩ := h
  rcases hp.live h18 with q | q | q | q
  · have e1 : f_begin S = S := by unfold f_begin; rw [if_neg (by rw [q.1]; decide)]
    have e2 : g_pre T = T := by unfold g_pre; rw [if_neg (by rw [q.2.1]; decide)]
    rw [e1, e2]
    exact ⟨hb, hr, Or.inl q, Kp.rf T⟩
  · have e0 : T.2 0 = S.2 0 := hb.1 0 (by decide)
    by_cases c4 : S.2 0 4 = S.2 0 3
    · have h7 : S.1 7 = 0 := by
        obtain ⟨hd, s, d1, d2, d3, d4, d5, d6⟩ := hb.2.2.2.2.1
        rcases d6 with d6 | d6
        · exact d6
        · exact absurd c4 (q.2.2.2.2.2 d6.1)
      have e1 : f_begin S = xs (f_end S) 18 3 := by unfold f_begin; rw [if_pos q.1, if_pos h7, if_pos c4]
      have e2 : g_pre T = g_nbegin T := by
        unfold g_pre g_idle
        rw [if_pos q.2.1, e0, if_pos c4, if_neg (by decide)]
      rw [e1, e2]
      obtain ⟨x1, x2, x3⟩ := new_run hb hr q h7
      exact ⟨x1, x2, Or.inr (Or.inr (Or.inl x3)), ((((Kp.rf T).clear.s 15 _).s 9 _).s 10 _).s 17 _⟩
    · have e1 : f_begin S = S := by
        unfold f_begin
        split
        · split
          · rfl
          · rfl
        · rfl
      have e2 : g_pre T = T := by
        unfold g_pre g_idle
        rw [if_pos q.2.1, e0, if_neg c4, if_pos rfl]
      rw [e1, e2]
      exact ⟨hb, hr, Or.inr (Or.inl ⟨q, Or.inr c4⟩), Kp.rf T⟩
  · have e1 : f_begin S = S := by unfold f_begin; rw [if_neg (by rw [q.1]; decide)]
    have e2 : g_pre T = T := by unfold g_pre; rw [if_neg (by rw [q.2.1]; decide)]
    rw [e1, e2]
    exact ⟨hb, hr, Or.inr (Or.inr (Or.inl q)), Kp.rf T⟩
  · have e1 : f_begin S = S := by unfold f_begin; rw [if_neg (by rw [q.1]; decide)]
    have e2 : g_pre T = T := by unfold g_pre; rw [if_neg (by rw [q.2.1]; decide)]
    rw [e1, e2]
    exact ⟨hb, hr, Or.inr (Or.inr (Or.inr q)), Kp.rf T⟩
