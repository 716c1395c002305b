/-! THE PLAIN LAW, sixth part: an attempt's end, a failure -/
set_option maxRecDepth 100000
/-- agreement of the two sides -/
def Ag (T S : XS) : Prop := (∀ j, j ≠ 11 → T.2 j = S.2 j) ∧ ∀ i, i ≤ 8 ∨ i = 13 ∨ i = 14 → T.1 i = S.1 i
section AA
variable {T S : XS}
theorem Ag.s (h : Ag T S) (k : Nat) (v : Int32) : Ag (xs T k v) (xs S k v) := ⟨h.1, fun i hi => by
  by_cases c : i = k
  · rw [c, s1s, s1s]
  · rw [s1n _ _ c, s1n _ _ c]; exact h.2 i hi⟩
theorem Ag.a (h : Ag T S) (j i : Nat) (v : Int32) : Ag (xa T j i v) (xa S j i v) := ⟨fun j' hj => by
  by_cases c : j' = j
  · subst c
    rw [a2s, a2s, h.1 _ hj]
  · rw [a2n _ _ _ c, a2n _ _ _ c]; exact h.1 j' hj, h.2⟩
theorem Ag.sl (h : Ag T S) {k : Nat} (v : Int32) (hk : 8 < k ∧ k ≠ 13 ∧ k ≠ 14) : Ag (xs T k v) S := ⟨h.1, fun i hi => by rw [s1n _ _ (by omega)]; exact h.2 i hi⟩
theorem Ag.sr (h : Ag T S) {k : Nat} (v : Int32) (hk : 8 < k ∧ k ≠ 13 ∧ k ≠ 14) : Ag T (xs S k v) := ⟨h.1, fun i hi => by rw [s1n _ _ (by omega)]; exact h.2 i hi⟩
theorem Ag.clr (h : Ag T S) : Ag (f_clr T 8 0) (f_clr S 8 0) := by
  obtain ⟨t1, t2, _, _⟩ := clr_at 8 0 T
  obtain ⟨u1, u2, _, _⟩ := clr_at 8 0 S
  refine ⟨fun j hj => ?_, fun i hi => by rw [t1, u1]; exact h.2 i hi⟩
  by_cases c : j = 4
  · rw [c]; exact clr_eq (h.1 4 (by decide))
  · rw [t2 j c, u2 j c]; exact h.1 j hj
end AA
theorem end_at (S : XS) : (∀ j, j ≠ 4 → (f_end S).2 j = S.2 j) ∧ (∀ k, k < 8 → (f_end S).2 4 k = 0) ∧ (f_end S).1 2 = 0 ∧ (f_end S).1 12 = 0 ∧ (f_end S).1 9 = 0 ∧ (f_end S).1 10 = -1 ∧ ∀ i, i ≠ 2 → i ≠ 9 → i ≠ 10 → i ≠ 11 → i ≠ 12 → (f_end S).1 i = S.1 i := by
  obtain ⟨h1, h2, h3, _⟩ := clr_at 8 0 S
  refine ⟨h2, fun k hk => h3 k (by omega) (by omega), rfl, rfl, rfl, rfl, fun i a b c d e => ?_⟩
  unfold f_end
  rw [s1n _ _ d, s1n _ _ e, s1n _ _ c, s1n _ _ a, s1n _ _ b, h1]
theorem gclear_at (T : XS) : (∀ j, j ≠ 4 → (g_clear T).2 j = T.2 j) ∧ (g_clear T).1 2 = 0 ∧ (g_clear T).1 12 = 0 ∧ ∀ i, i ≠ 2 → i ≠ 12 → (g_clear T).1 i = T.1 i := by
  obtain ⟨h1, h2, _, _⟩ := clr_at 8 0 (xs (xs T 2 0) 12 0)
  refine ⟨h2, ?_, ?_, fun i a b => ?_⟩
  · show (f_clr (xs (xs T 2 0) 12 0) 8 0).1 2 = 0
    rw [h1, s1n _ _ (by decide), s1s]
  · show (f_clr (xs (xs T 2 0) 12 0) 8 0).1 12 = 0
    rw [h1, s1s]
  · show (f_clr (xs (xs T 2 0) 12 0) 8 0).1 i = _
    rw [h1, s1n _ _ b, s1n _ _ a]
theorem Ag.end_ {T S : XS} (h : Ag T S) : Ag (g_clear T) (f_end S) := by
  have h1 : Ag (f_clr (xs (xs T 2 0) 12 0) 8 0) (f_clr (xs S 2 0) 8 0) := ((h.s 2 0).sl 0 (by omega)).clr
  obtain ⟨e1, _⟩ := end_at S
  obtain ⟨c1, c2, _, _⟩ := clr_at 8 0 (xs S 2 0)
  obtain ⟨d1, d2, d3, d4⟩ := clr_at 8 0 S
  have e4 : (f_clr (xs S 2 0) 8 0).2 4 = (f_clr S 8 0).2 4 := clr_eq rfl
  refine ⟨fun j hj => ?_, fun i hi => ?_⟩
  · show (f_clr (xs (xs T 2 0) 12 0) 8 0).2 j = _
    rw [h1.1 j hj]
    by_cases c : j = 4
    · rw [c, e4]; rfl
    · rw [c2 j c, e1 j c]; rfl
  · by_cases c : i = 2
    · rw [c, (gclear_at T).2.1, (end_at S).2.2.1]
    · rw [(gclear_at T).2.2.2 i c (by omega), (end_at S).2.2.2.2.2.2 i c (by omega) (by omega) (by omega) (by omega)]
      exact h.2 i hi
theorem twice_min (m : Int32) : g_min (2 * m) 1940 = f_twice m := min_le _ _
theorem Ag.count {T S : XS} {t : Int32} (h : Ag T S) (ht : T.1 15 = t) : Ag (g_count T) (f_count S t) := by
  have h1 : Ag (g_count1 T) (f_count1 S t) := by
    unfold g_count1 f_count1
    rw [ht, h.1 7 (by decide)]
    exact h.a _ _ _
  have t1 : (g_count1 T).1 15 = t := ht
  have h2 : Ag (g_count2 (g_count1 T)) (f_count2 (f_count1 S t) t) := by
    unfold g_count2 f_count2
    rw [t1, max_most, twice_min]
    have : f_most (g_count1 T) t = f_most (f_count1 S t) t := by
      unfold f_most
      rw [h1.1 6 (by decide), h1.2 2 (by omega)]
    rw [this]
    exact h1.a _ _ _
  have t2 : (g_count2 (g_count1 T)).1 15 = t := ht
  unfold g_count f_count g_count3 f_count3
  rw [t2, h2.1 7 (by decide)]
  split
  · exact h2.s _ _
  · exact h2
/-- what a failure that counts leaves -/
theorem count_at {c : Nat} (S : XS) {t : Nat} (ht : t < 16) (hc : c < 100000) (he : ∀ t, t < 16 → ∃ x, S.2 6 t = nI x ∧ x ≤ 2000 + 10 * c) (hs : ∃ x, S.1 2 = nI x ∧ x ≤ 10 * c) : (∀ j, j ≠ 6 → j ≠ 7 → (f_count S (nI t)).2 j = S.2 j) ∧ (∀ i, i ≠ 4 → (f_count S (nI t)).1 i = S.1 i) ∧ ∀ t', t' < 16 → ∃ x, (f_count S (nI t)).2 6 t' = nI x ∧ x ≤ 2000 + 10 * c := by
  have et : ix (nI t) = t := nI_clamp (by omega)
  have a2 : ∀ j, (f_count S (nI t)).2 j = (f_count2 (f_count1 S (nI t)) (nI t)).2 j := by
    intro j
    unfold f_count f_count3
    split <;> rfl
  refine ⟨fun j h6 h7 => ?_, fun i h4 => ?_, fun t' ht' => ?_⟩
  · rw [a2]
    unfold f_count2 f_count1
    rw [a2n _ _ _ h6, a2n _ _ _ h7]
  · unfold f_count f_count3
    split
    · rw [s1n _ _ h4]; rfl
    · rfl
  · rw [a2]
    unfold f_count2
    rw [a2s, et]
    by_cases cc : t' = t
    · rw [cc, pk_us]
      obtain ⟨x, x1, x2⟩ := he t ht
      obtain ⟨y, y1, y2⟩ := hs
      have hm : ∃ z, f_most (f_count1 S (nI t)) (nI t) = nI z ∧ z ≤ 2000 + 10 * c := by
        unfold f_most
        have e6 : (f_count1 S (nI t)).2 6 (ix (nI t)) = nI x := by rw [et]; exact x1
        rw [e6, show (f_count1 S (nI t)).1 2 = nI y from y1]
        split
        · exact ⟨y, rfl, by omega⟩
        · exact ⟨x, rfl, x2⟩
      obtain ⟨z, z1, z2⟩ := hm
      rw [z1]
      unfold f_twice
      rw [show (2 : Int32) = nI 2 from rfl, pk_mul]
      split
      · rename_i hle
        rw [show (1940 : Int32) = nI 1940 from rfl, nI_leI (by omega) (by decide)] at hle
        exact ⟨2 * z, rfl, by omega⟩
      · exact ⟨1940, rfl, by omega⟩
    · rw [pk_un cc, show (f_count1 S (nI t)).2 6 = S.2 6 from a2n _ _ _ (by decide)]
      exact he t' ht'
theorem gcount_at (T : XS) : (g_count T).1 15 = T.1 15 ∧ (g_count T).1 16 = T.1 16 := by
  unfold g_count g_count3
  split <;> exact ⟨rfl, rfl⟩
theorem allR.congr {S U : XS} (h : allR S) (h12 : U.2 12 = S.2 12) (h13 : U.2 13 = S.2 13) : allR U := by
  intro t i ht hi
  have e : f_right U (nI t) (nI i) = f_right S (nI t) (nI i) := by
    unfold f_right f_right0
    rw [h12, h13]
  rw [e]
  exact h t i ht (by rw [← h13]; exact hi)
theorem szOk.congr {S U : XS} (h : szOk S) (h13 : U.2 13 = S.2 13) : szOk U := by
  intro t ht
  rw [h13]
  exact h t ht
/-- a commit behind its mark, as a marked list -/
theorem com_mark {c p k : Nat} {sz kp wh wt : Nat → Int32} (hp : p ≤ 38) (hk : 2 * (p + 2) < k) (he : Ent c sz kp wh wt (p + 2)) (hl : ∀ j, j < k → j < 2 * (p + 2) → kp (84 + j) = if j % 2 = 0 then wh (j / 2) else wt (j / 2)) (hm : kp 2 = nI (p + 2)) : MarkOK c sz kp (p + 2) := by
  refine ⟨by omega, by omega, hm, he.congr (by omega) (fun e h => ?_) (fun e h => ?_) (fun _ _ _ _ => rfl)⟩
  · have := hl (2 * e) (by omega) (by omega)
    rw [if_pos (by omega), show 2 * e / 2 = e by omega] at this
    exact this
  · have := hl (2 * e + 1) (by omega) (by omega)
    rw [if_neg (by omega), show (2 * e + 1) / 2 = e by omega, ← Nat.add_assoc] at this
    exact this
def FailK (c : Nat) (T S : XS) : Prop := ∃ V U : XS, g_fail1 (xs T 5 (T.1 5 + 1)) = V ∧ f_fail1 (xs S 5 (S.1 5 + 1)) = U ∧ Ag V U ∧ (∀ j, j ≠ 6 → j ≠ 7 → U.2 j = S.2 j) ∧ (∀ i, i ≠ 4 → i ≠ 5 → U.1 i = S.1 i) ∧ (∀ t', t' < 16 → ∃ x, U.2 6 t' = nI x ∧ x ≤ 2000 + 10 * c) ∧ V.1 15 = T.1 15 ∧ V.1 16 = T.1 16
/-- a failure: both sides are off -/
theorem fail_sim {c : Nat} {T S : XS} (hc : c < 100000) (hb : Base c T S) (hr : allR S) (hp : pRep c T S ∨ pAir c T S ∨ pRun c T S ∨ pCom c T S) : Sim c (g_fail T) (f_fail S) ∧ failOkC T := by
  obtain ⟨b1, b2, b3, b4, ⟨hd, s, d1, d2, d3, d4, d5, d6⟩, b6, b7, b8, b9⟩ := hb
  have ag : Ag (xs T 5 (T.1 5 + 1)) (xs S 5 (S.1 5 + 1)) := by
    rw [b2 5 (by omega)]
    exact Ag.s ⟨b1, b2⟩ _ _
  -- what the failure's count leaves
  have key : FailK c T S := by
    have yes : S.1 18 = 3 ∨ (S.1 18 = 4 ∧ S.2 0 2 = 0) → ¬ g_counts (xs T 5 (T.1 5 + 1)) = 0 → T.1 15 = S.2 0 0 → FailK c T S := fun h18 hcn h15 => by
      obtain ⟨t, t1, t2⟩ := vp_in_of b9 (by decide)
      have eU : f_fail1 (xs S 5 (S.1 5 + 1)) = f_count (xs S 5 (S.1 5 + 1)) (nI t) := by
        unfold f_fail1
        rw [show (xs S 5 (S.1 5 + 1)).1 18 = S.1 18 from rfl, show (xs S 5 (S.1 5 + 1)).2 0 2 = S.2 0 2 from rfl, show (xs S 5 (S.1 5 + 1)).2 0 0 = S.2 0 0 from rfl, t2]
        rcases h18 with e | ⟨e, e2⟩
        · rw [if_pos e]
        · rw [if_neg (by rw [e]; decide), if_pos e, if_pos e2]
      have eV : g_fail1 (xs T 5 (T.1 5 + 1)) = g_count (xs T 5 (T.1 5 + 1)) := if_neg hcn
      obtain ⟨c1, c2, c3⟩ := count_at (c := c) (xs S 5 (S.1 5 + 1)) t1 hc b6 b7
      obtain ⟨g1, g2⟩ := gcount_at (xs T 5 (T.1 5 + 1))
      exact ⟨_, _, eV, eU, ag.count (by rw [← t2]; exact h15), fun j h6 h7 => c1 j h6 h7, fun i h4 h5 => (c2 i h4).trans (s1n _ _ h5), c3, g1, g2⟩
    have no : ¬ S.1 18 = 3 → (S.1 18 = 4 → ¬ S.2 0 2 = 0) → g_counts (xs T 5 (T.1 5 + 1)) = 0 → FailK c T S := fun h3 h4 hcn => by
      have eU : f_fail1 (xs S 5 (S.1 5 + 1)) = xs S 5 (S.1 5 + 1) := by
        unfold f_fail1
        rw [show (xs S 5 (S.1 5 + 1)).1 18 = S.1 18 from rfl, show (xs S 5 (S.1 5 + 1)).2 0 2 = S.2 0 2 from rfl, if_neg h3]
        by_cases e : S.1 18 = 4
        · rw [if_pos e, if_neg (h4 e)]
        · rw [if_neg e]
      have eV : g_fail1 (xs T 5 (T.1 5 + 1)) = xs T 5 (T.1 5 + 1) := if_pos hcn
      exact ⟨_, _, eV, eU, ag, fun _ _ _ => rfl, fun i _ h5 => s1n _ _ h5, b6, rfl, rfl⟩
    have gc : ∀ q : Int32, T.1 17 = q → g_counts (xs T 5 (T.1 5 + 1)) = if q = 8 then 1 else if q = 9 then (if S.2 0 2 = 0 then 1 else 0) else 0 := fun q e => by
      unfold g_counts
      rw [show (xs T 5 (T.1 5 + 1)).1 17 = T.1 17 from rfl, show (xs T 5 (T.1 5 + 1)).2 0 2 = T.2 0 2 from rfl, e, b1 0 (by decide)]
    rcases hp with h | h | h | h
    · exact no (by rw [h.1]; decide) (by rw [h.1]; intro z; exact absurd z (by decide)) (by rw [gc 6 h.2.1]; simp (decide := true))
    · exact no (by rw [h.1]; decide) (by rw [h.1]; intro z; exact absurd z (by decide)) (by rw [gc 7 h.2.1]; simp (decide := true))
    · exact yes (Or.inl h.1) (by rw [gc 8 h.2.1]; simp (decide := true)) h.2.2.2.2.2.1
    · obtain ⟨h1, h2, _, p, k, p1, p2, p3, p4, p5, p6, p7, p8, p9, p10⟩ := h
      rcases Nat.lt_or_ge (2 * (p + 2)) k with q | q
      · have hm : ¬ S.2 0 2 = 0 := by rw [(p10 q).1]; exact nI_ne0 (by omega) (by omega)
        exact no (by rw [h1]; decide) (fun _ => hm) (by rw [gc 9 h2, if_neg hm]; decide)
      · have hm := (p9 q).1
        exact yes (Or.inr ⟨h1, hm⟩) (by rw [gc 9 h2, if_pos hm]; decide) (p9 q).2.2
  obtain ⟨V, U, eV, eU, agVU, u1, u2, u3, v15, v16⟩ := key
  have eF : f_fail S = f_end (xs U 18 0) := by unfold f_fail; rw [eU]
  have eG : g_fail T = g_clear (xs V 17 0) := by unfold g_fail; rw [eV]
  have agF : Ag (g_fail T) (f_fail S) := by
    rw [eF, eG]
    exact ((agVU.sl 0 (by omega)).sr 0 (by omega)).end_
  have f2 : ∀ j, j ≠ 4 → j ≠ 6 → j ≠ 7 → (f_fail S).2 j = S.2 j := fun j h4 h6 h7 => by
    rw [eF, (end_at _).1 j h4]; exact u1 j h6 h7
  have f1 : ∀ i, i ≠ 2 → i ≠ 4 → i ≠ 5 → i ≠ 9 → i ≠ 10 → i ≠ 11 → i ≠ 12 → i ≠ 18 → (f_fail S).1 i = S.1 i := fun i h2 h4 h5 h9 h10 h11 h12 h18 => by
    rw [eF, (end_at _).2.2.2.2.2.2 i h2 h9 h10 h11 h12, s1n _ _ h18]; exact u2 i h4 h5
  have f18 : (f_fail S).1 18 = 0 := by rw [eF, (end_at _).2.2.2.2.2.2 18 (by decide) (by decide) (by decide) (by decide) (by decide), s1s]
  have idle : Idle (f_fail S) := by rw [eF]; exact ⟨(end_at _).2.1, (end_at _).2.2.1⟩
  have g17 : (g_fail T).1 17 = 0 := by rw [eG, (gclear_at _).2.2.2 17 (by decide) (by decide), s1s]
  have g15 : (g_fail T).1 15 = T.1 15 := by rw [eG, (gclear_at _).2.2.2 15 (by decide) (by decide), s1n _ _ (by decide)]; exact v15
  have g16 : (g_fail T).1 16 = T.1 16 := by rw [eG, (gclear_at _).2.2.2 16 (by decide) (by decide), s1n _ _ (by decide)]; exact v16
  have k0 : (f_fail S).2 0 = S.2 0 := f2 0 (by decide) (by decide) (by decide)
  have k13 : (f_fail S).2 13 = S.2 13 := f2 13 (by decide) (by decide) (by decide)
  refine ⟨⟨⟨agF.1, agF.2, by rw [g15]; exact b3, b4.congr k13, ⟨hd, s, by rw [k0]; exact d1, d2, by rw [g16]; exact d3, fun j hj => by rw [f2 11 (by decide) (by decide) (by decide)]; exact d4 j hj, d5, by rw [f1 7 (by decide) (by decide) (by decide) (by decide) (by decide) (by decide) (by decide) (by decide)]; exact d6⟩, fun t ht => ?_, ⟨0, by rw [idle.2]; rfl, by omega⟩, ?_, by rw [k0]; exact b9⟩, hr.congr (f2 12 (by decide) (by decide) (by decide)) k13, Or.inl ⟨f18, g17, idle, ?_⟩⟩, ?_, b3⟩
  · rw [eF, (end_at _).1 6 (by decide)]
    exact u3 t ht
  · rw [f1 13 (by decide) (by decide) (by decide) (by decide) (by decide) (by decide) (by decide) (by decide)]
    exact b8
  · rw [k0, k13]
    rcases hp with h | h | h | h
    · obtain ⟨_, _, _, _, n, i, hm, _⟩ := h
      exact Or.inr ⟨n, hm⟩
    · exact Or.inl ⟨h.2.2.2.1, h.2.2.2.2.1⟩
    · exact Or.inl ⟨h.2.2.2.2.2.2.2.1, h.2.2.2.2.2.2.2.2.1⟩
    · obtain ⟨_, _, _, p, k, p1, p2, p3, p4, p5, p6, p7, p8, p9, p10⟩ := h
      rcases Nat.lt_or_ge (2 * (p + 2)) k with q | q
      · exact Or.inr ⟨p + 2, com_mark p1 q p7 p8 (p10 q).1⟩
      · exact Or.inl ⟨(p9 q).1, (p9 q).2.1⟩
  · rcases hp with h | h | h | h
    · exact Or.inl h.2.1
    · exact Or.inr (Or.inl h.2.1)
    · exact Or.inr (Or.inr (Or.inl h.2.1))
    · exact Or.inr (Or.inr (Or.inr h.2.1))
