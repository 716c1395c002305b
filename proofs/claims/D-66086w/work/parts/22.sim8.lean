/-! THE PLAIN LAW, eighth part: a step of the air -/
set_option maxRecDepth 100000
theorem xs_comm (S : XS) {k k' : Nat} (v v' : Int32) (h : k ≠ k') : xs (xs S k v) k' v' = xs (xs S k' v') k v := by
  refine Prod.ext ?_ rfl
  funext i
  by_cases c1 : i = k'
  · subst c1
    rw [s1s, s1n _ _ (Ne.symm h), s1s]
  · by_cases c2 : i = k
    · subst c2
      rw [s1n _ _ c1, s1s, s1s]
    · rw [s1n _ _ c1, s1n _ _ c2, s1n _ _ c2, s1n _ _ c1]
theorem far_new (s : Nat) : far (s + 1) (s % 64) = nI s := by
  unfold far
  rw [if_pos (by omega)]
  congr 1
  omega
theorem far_old {s : Nat} (hs : s < 100000) : ¬ far s (s % 64) = nI s := by
  unfold far
  split
  · rw [nI_eq (by omega) (by omega)]
    omega
  · intro z
    have : ¬ nI s < 0 := nI_pos (by omega)
    rw [← z] at this
    exact absurd (by decide) this
theorem far_succ {s j : Nat} (hj : j < 64) (hne : j ≠ s % 64) : far (s + 1) j = far s j := by
  unfold far
  by_cases c : j < s
  · rw [if_pos c, if_pos (by omega)]
    congr 1
    omega
  · rw [if_neg c, if_neg (by omega)]
theorem air_sim {c : Nat} {T S : XS} (hc : c < 50000) (hb : Base c T S) (hr : allR S) (hp : pAir c T S) (hn : S.1 7 = 1 ∨ ¬ S.2 0 4 = S.2 0 3) : Sim (c + 1) (g_air T) (f_air1 S) ∧ airOk S ∧ airOk T ∧ (f_air1 S).1 5 = S.1 5 ∧ (f_air1 S).1 3 = S.1 3 ∧ ¬ (f_air1 S).1 18 = 0 := by
  obtain ⟨b1, b2, b3, b4, ⟨hd, s, d1, d2, d3, d4, d5, d6⟩, b6, ⟨y, y1, y2⟩, ⟨x, x1, x2⟩, b9⟩ := hb
  obtain ⟨h1, h2, h3, h4, h5, h6⟩ := hp
  have e0 : T.2 0 = S.2 0 := b1 0 (by decide)
  have e7 : T.1 7 = S.1 7 := b2 7 (by omega)
  have e13 : T.1 13 = S.1 13 := b2 13 (by omega)
  have ok : airOk S := ⟨by rw [d1]; exact vp_in_nI (by omega) (by decide), by rw [x1]; exact vp_in_nI (by omega) (by decide)⟩
  have okT : airOk T := by
    unfold airOk
    rw [e0, e13]
    exact ok
  obtain ⟨k1, k2, s', n, k3, k4, k5, k6, k7⟩ := h5
  have hss : s' = s := by
    rw [d1] at k3
    exact ((nI_eq (by omega) (by omega)).mp k3).symm
  subst hss
  have hne : ¬ S.2 0 4 = S.2 0 3 := by
    rcases hn with z | z
    · exact h6 z
    · exact z
  have hlt : s' < n := by
    rw [k3, k4, nI_eq (by omega) (by omega)] at hne
    omega
  rcases d6 with z7 | ⟨z7, zh⟩
  · -- a frame goes out
    have hpay : ∃ pl, pl = S.2 0 (ix (68 + jrem (S.2 0 4) 16)) := ⟨_, rfl⟩
    obtain ⟨pl, epl⟩ := hpay
    have ej : ix (jrem (nI s') 64) = s' % 64 := by
      rw [show (64 : Int32) = nI 64 from rfl, jrem_nI (by omega) (by decide) (by decide)]
      exact nI_clamp (by omega)
    have eS : f_air1 S = f_out (xs S 7 1) (nI s') pl := by
      unfold f_air1
      rw [if_pos z7, epl, d1]
    have eT : g_air T = g_tog (g_out T (nI s') pl) := by
      unfold g_air g_air0
      rw [e7, if_pos z7, e0, epl, d1]
    obtain ⟨k, ek⟩ : ∃ k, k = ix (jrem (S.1 13) 64) := ⟨_, rfl⟩
    have ag1 : Ag (xs (xa (xa T 8 k (nI s')) 9 k pl) 13 (nI (x + 1))) (xs (xa (xa S 8 k (nI s')) 9 k pl) 13 (nI (x + 1))) := ((Ag.a ⟨b1, b2⟩ _ _ _).a _ _ _).s _ _
    have eS2 : f_air1 S = f_far (xs (xs (xa (xa S 8 k (nI s')) 9 k pl) 13 (nI (x + 1))) 7 1) (nI s') pl := by
      rw [eS]
      unfold f_out
      rw [show (xs S 7 1).1 13 = S.1 13 from rfl, ← ek, x1, nI_1]
      exact congrArg (fun z => f_far z (nI s') pl) (xs_comm (xa (xa S 8 k (nI s')) 9 k pl) 1 (nI (x + 1)) (show (7 : Nat) ≠ 13 by decide))
    have eT2 : g_out T (nI s') pl = g_far (xs (xa (xa T 8 k (nI s')) 9 k pl) 13 (nI (x + 1))) (nI s') pl := by
      unfold g_out
      rw [e13, ← ek, x1, nI_1]
    have h11 : (xs (xs (xa (xa S 8 k (nI s')) 9 k pl) 13 (nI (x + 1))) 7 1).2 11 (ix (jrem (nI s') 64)) = far hd (s' % 64) := by
      rw [ej]
      show S.2 11 (s' % 64) = _
      exact d4 _ (by omega)
    rcases d2 with dd | dd
    · -- a new one
      subst dd
      have eS3 : f_air1 S = xa (xa (xs (xs (xa (xa S 8 k (nI hd)) 9 k pl) 13 (nI (x + 1))) 7 1) 11 (hd % 64) (nI hd)) 10 (hd % 64) pl := by
        rw [eS2]
        unfold f_far
        rw [h11, if_neg (far_old (by omega)), ej]
      have eT3 : g_air T = xs (xs (xa (xs (xa (xa T 8 k (nI hd)) 9 k pl) 13 (nI (x + 1))) 10 (hd % 64) pl) 16 (nI (hd + 1))) 7 1 := by
        rw [eT, eT2]
        unfold g_far
        rw [if_pos (by show T.1 16 ≤ nI hd; rw [d3]; exact Int32.le_refl _), ej, nI_1]
        unfold g_tog
        rw [if_pos (by show T.1 7 = 0; rw [e7]; exact z7)]
      have ag : Ag (g_air T) (f_air1 S) := by
        rw [eS3, eT3]
        refine ⟨fun j hj => ?_, fun i hi => ?_⟩
        · show (xa (xs (xa (xa T 8 k (nI hd)) 9 k pl) 13 (nI (x + 1))) 10 (hd % 64) pl).2 j = _
          by_cases c10 : j = 10
          · rw [c10, a2s, a2s, a2n _ _ _ (by decide)]
            show upd ((xs (xa (xa T 8 k (nI hd)) 9 k pl) 13 (nI (x + 1))).2 10) _ _ = _
            rw [ag1.1 10 (by decide)]; rfl
          · rw [a2n _ _ _ c10, a2n _ _ _ c10, a2n _ _ _ hj]
            exact ag1.1 j hj
        · by_cases c7 : i = 7
          · rw [c7, s1s]; rfl
          · rw [s1n _ _ c7, s1n _ _ (by omega)]
            show (xs (xa (xa T 8 k (nI hd)) 9 k pl) 13 (nI (x + 1))).1 i = (xs (xs (xa (xa S 8 k (nI hd)) 9 k pl) 13 (nI (x + 1))) 7 1).1 i
            rw [s1n (xs (xa (xa S 8 k (nI hd)) 9 k pl) 13 (nI (x + 1))) _ c7]
            exact ag1.2 i hi
      have f0 : (f_air1 S).2 0 = S.2 0 := by rw [eS3]; rfl
      have f11 : (f_air1 S).2 11 = upd (S.2 11) (hd % 64) (nI hd) := by rw [eS3, a2n _ _ _ (by decide), a2s]; rfl
      refine ⟨⟨⟨ag.1, ag.2, by rw [eT3]; exact b3, by rw [eS3]; exact b4, ⟨hd + 1, hd, by rw [f0]; exact d1, Or.inr rfl, by rw [eT3]; rfl, fun j hj => ?_, by omega, Or.inr ⟨by rw [eS3]; rfl, rfl⟩⟩, ?_, ⟨y, by rw [eS3]; exact y1, by omega⟩, ⟨x + 1, by rw [eS3]; rfl, by omega⟩, by rw [f0]; exact b9⟩, hr.congr (by rw [eS3]; rfl) (by rw [eS3]; rfl), Or.inr (Or.inr (Or.inl ⟨by rw [eS3]; exact h1, by rw [eT3]; exact h2, by rw [eS3]; exact h3, by rw [f0]; exact h4, ?_, fun _ => by rw [f0]; exact hne⟩))⟩, ok, okT, by rw [eS3]; rfl, by rw [eS3]; rfl, by rw [eS3]; show ¬ S.1 18 = 0; rw [h1]; decide⟩
      · rw [f11]
        by_cases cj : j = hd % 64
        · rw [cj, pk_us]; exact (far_new hd).symm
        · rw [pk_un cj, far_succ hj cj]; exact d4 j hj
      · rw [show (f_air1 S).2 6 = S.2 6 by rw [eS3]; rfl]
        intro t ht
        obtain ⟨z, z1, z2⟩ := b6 t ht
        exact ⟨z, z1, by omega⟩
      · rw [f0, show (f_air1 S).2 13 = S.2 13 by rw [eS3]; rfl]
        exact ⟨k1, k2, hd, n, k3, k4, k5, k6, by omega⟩
    · -- again: the far side has it
      subst dd
      have eS3 : f_air1 S = xs (xs (xa (xa S 8 k (nI s')) 9 k pl) 13 (nI (x + 1))) 7 1 := by
        rw [eS2]
        unfold f_far
        rw [h11, if_pos (far_new s')]
      have eT3 : g_air T = xs (xs (xa (xa T 8 k (nI s')) 9 k pl) 13 (nI (x + 1))) 7 1 := by
        rw [eT, eT2]
        unfold g_far
        rw [if_neg (by show ¬ T.1 16 ≤ nI s'; rw [d3, nI_leI (by omega) (by omega)]; omega)]
        unfold g_tog
        rw [if_pos (by show T.1 7 = 0; rw [e7]; exact z7)]
      have ag : Ag (g_air T) (f_air1 S) := by
        rw [eS3, eT3]
        exact ag1.s _ _
      have f0 : (f_air1 S).2 0 = S.2 0 := by rw [eS3]; rfl
      refine ⟨⟨⟨ag.1, ag.2, by rw [eT3]; exact b3, by rw [eS3]; exact b4, ⟨s' + 1, s', by rw [f0]; exact d1, Or.inr rfl, by rw [eT3]; exact d3, by rw [eS3]; exact d4, by omega, Or.inr ⟨by rw [eS3]; rfl, rfl⟩⟩, ?_, ⟨y, by rw [eS3]; exact y1, by omega⟩, ⟨x + 1, by rw [eS3]; rfl, by omega⟩, by rw [f0]; exact b9⟩, hr.congr (by rw [eS3]; rfl) (by rw [eS3]; rfl), Or.inr (Or.inr (Or.inl ⟨by rw [eS3]; exact h1, by rw [eT3]; exact h2, by rw [eS3]; exact h3, by rw [f0]; exact h4, ?_, fun _ => by rw [f0]; exact hne⟩))⟩, ok, okT, by rw [eS3]; rfl, by rw [eS3]; rfl, by rw [eS3]; show ¬ S.1 18 = 0; rw [h1]; decide⟩
      · rw [show (f_air1 S).2 6 = S.2 6 by rw [eS3]; rfl]
        intro t ht
        obtain ⟨z, z1, z2⟩ := b6 t ht
        exact ⟨z, z1, by omega⟩
      · rw [f0, show (f_air1 S).2 13 = S.2 13 by rw [eS3]; rfl]
        exact ⟨k1, k2, s', n, k3, k4, k5, k6, by omega⟩
  · -- it is noted
    have n7 : ¬ S.1 7 = 0 := by rw [z7]; decide
    have eS : f_air1 S = f_write (xs S 7 0) 4 (nI (s' + 1)) := by
      unfold f_air1
      rw [if_neg n7, d1, nI_1]
    have eT : g_air T = xs (f_write T 4 (nI (s' + 1))) 7 0 := by
      unfold g_air g_air0
      rw [e7, if_neg n7, e0, d1, nI_1]
      unfold g_tog
      rw [if_neg (by show ¬ T.1 7 = 0; rw [e7]; exact n7)]
    have ag : Ag (g_air T) (f_air1 S) := by
      rw [eS, eT]
      show Ag (f_write (xs T 7 0) 4 (nI (s' + 1))) _
      unfold f_write
      rw [show (xs T 7 0).2 1 = S.2 1 from b1 1 (by decide)]
      exact ((Ag.s ⟨b1, b2⟩ _ _).a _ _ _).a _ _ _
    have f0 : (f_air1 S).2 0 = upd (S.2 0) 4 (nI (s' + 1)) := by rw [eS]; rfl
    refine ⟨⟨⟨ag.1, ag.2, by rw [eT]; exact b3, by rw [eS]; exact b4, ⟨s' + 1, s' + 1, by rw [f0, pk_us], Or.inl rfl, by rw [eT, ← zh]; exact d3, by rw [eS, ← zh]; exact d4, by omega, Or.inl (by rw [eS]; rfl)⟩, ?_, ⟨y, by rw [eS]; exact y1, by omega⟩, ⟨x, by rw [eS]; exact x1, by omega⟩, by rw [f0, pk_un (by decide)]; exact b9⟩, hr.congr (by rw [eS]; rfl) (by rw [eS]; rfl), Or.inr (Or.inr (Or.inl ⟨by rw [eS]; exact h1, by rw [eT]; exact h2, by rw [eS]; exact h3, by rw [f0, pk_un (by decide)]; exact h4, ?_, ?_⟩))⟩, ok, okT, by rw [eS]; rfl, by rw [eS]; rfl, by rw [eS]; show ¬ S.1 18 = 0; rw [h1]; decide⟩
    · rw [show (f_air1 S).2 6 = S.2 6 by rw [eS]; rfl]
      intro t ht
      obtain ⟨z, z1, z2⟩ := b6 t ht
      exact ⟨z, z1, by omega⟩
    · rw [f0, show (f_air1 S).2 13 = S.2 13 by rw [eS]; rfl]
      obtain ⟨t, t1, t2, t3⟩ := k1
      refine ⟨⟨t, t1, by rw [pk_un (by decide)]; exact t2, t3⟩, fun b hb => ?_, s' + 1, n, pk_us, by rw [pk_un (by decide)]; exact k4, by omega, by omega, by omega⟩
      obtain ⟨f, m, q1, q2, q3, q4⟩ := k2 b hb
      exact ⟨f, m, q1, q2, by rw [pk_un (by omega)]; exact q3, by rw [pk_un (by omega)]; exact q4⟩
    · intro z
      rw [eS] at z
      exact absurd (show (0 : Int32) = 1 from z) (by decide)
