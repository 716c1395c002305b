/-! THE PLAIN LAW, second part: an attempt's instructions on the two sides -/
set_option maxRecDepth 100000
theorem xa_comm (S : XS) {j j' : Nat} (i i' : Nat) (v v' : Int32) (h : j ≠ j') : xa (xa S j i v) j' i' v' = xa (xa S j' i' v') j i v := by
  refine Prod.ext rfl ?_
  funext a
  by_cases c1 : a = j'
  · subst c1
    rw [a2s, a2n _ _ _ (Ne.symm h), a2n _ _ _ (Ne.symm h), a2s]
  · by_cases c2 : a = j
    · subst c2
      rw [a2n _ _ _ h, a2s, a2s, a2n _ _ _ h]
    · rw [a2n _ _ _ c1, a2n _ _ _ c2, a2n _ _ _ c2, a2n _ _ _ c1]
theorem xa_xa (S : XS) (j i : Nat) (v w : Int32) : xa (xa S j i v) j i w = xa S j i w := by
  refine Prod.ext rfl ?_
  funext a
  by_cases c : a = j
  · subst c
    rw [a2s, a2s, a2s, upd_upd]
  · rw [a2n _ _ _ c, a2n _ _ _ c, a2n _ _ _ c]
theorem xa_id (S : XS) (j i : Nat) : xa S j i (S.2 j i) = S := by
  refine Prod.ext rfl ?_
  funext a
  by_cases c : a = j
  · subst c
    rw [a2s, upd_id]
  · rw [a2n _ _ _ c]
theorem xs_id (S : XS) (k : Nat) : xs S k (S.1 k) = S := by
  refine Prod.ext ?_ rfl
  funext i
  by_cases c : i = k
  · subst c
    rw [s1s]
  · rw [s1n _ _ c]
theorem put_xa4 (S : XS) (i : Nat) (v a x : Int32) : f_put (xa S 4 i v) a x = xa (f_put S a x) 4 i v := by
  have hp : f_place (xa S 4 i v) a = f_place S a := rfl
  unfold f_put
  rw [hp]
  by_cases c : f_place S a = -1
  · rw [if_pos c, if_pos c]
    show xa (xa (xa (xs S 12 (S.1 12 + 1)) 4 i v) 2 _ a) 3 _ x = _
    rw [xa_comm _ _ _ _ _ (show (4 : Nat) ≠ 2 by decide), xa_comm _ _ _ _ _ (show (4 : Nat) ≠ 3 by decide)]
    rfl
  · rw [if_neg c, if_neg c, xa_comm _ _ _ _ _ (show (4 : Nat) ≠ 3 by decide)]
theorem room_xa4 (S : XS) (i : Nat) (v a b : Int32) : f_room (xa S 4 i v) a b = f_room S a b := rfl
theorem see_xa4 (S : XS) (i : Nat) (v a : Int32) : f_see (xa S 4 i v) a = f_see S a := rfl
theorem push_same {S : XS} {at_ v : Int32} {m : Nat} (hm : m ≤ 4) (h : f_see S (at_ + 1) = nI m) : g_push S at_ v = f_push1 S at_ v := by
  unfold g_push f_push1 g_push2 f_push2
  rw [takes_room, room_xa4, h]
  by_cases c : m = 4
  · subst c
    rw [if_pos (by decide), if_pos (by decide)]
  · have n1 : ¬ (4 : Int32) ≤ nI m := by rw [show (4 : Int32) = nI 4 from rfl, nI_leI (by decide) (by omega)]; omega
    have n2 : ¬ nI m = 4 := by rw [show (4 : Int32) = nI 4 from rfl, nI_eq (by omega) (by decide)]; exact c
    rw [if_neg n1, if_neg n2]
    by_cases c2 : f_room S (at_ + 2 + jrem (f_see S at_ + nI m) 4) (at_ + 1) = 0
    · rw [if_pos c2, if_pos c2]
    · rw [if_neg c2, if_neg c2, put_xa4, put_xa4, xa_xa]
theorem pop_same {S : XS} {at_ r : Int32} {m : Nat} (hm : m ≤ 4) (h : f_see S (at_ + 1) = nI m) : g_pop S at_ r = f_pop1 S at_ (f_see S at_) (f_see S (at_ + 1)) r := by
  unfold g_pop g_pop1 f_pop1 g_pop0
  rw [takes_room, h]
  by_cases c : m = 0
  · subst c
    rw [if_pos (by decide), if_pos (by decide)]
    exact (if_pos (by decide)).symm
  · rw [if_neg (nI_nle (by omega) (by omega)), if_neg (nI_ne0 (n := m) (by omega) (by omega)), if_neg (nI_ne0 (n := m) (by omega) (by omega))]
theorem send_same {S : XS} {v : Int32} {d : Nat} (hd : d ≤ 16) (h : f_see S 3 - S.2 0 4 = nI d) : g_send S v = f_send S v := by
  unfold g_send f_send g_send2 f_send2
  rw [takes_room, room_xa4, h, show f_see S 3 - (xa S 4 7 0).2 0 4 = nI d from h]
  by_cases c : d = 16
  · subst c
    rw [if_pos (by decide), if_pos (by decide)]
  · have n1 : ¬ (16 : Int32) ≤ nI d := by rw [show (16 : Int32) = nI 16 from rfl, nI_leI (by decide) (by omega)]; omega
    have n2 : ¬ nI d = 16 := by rw [show (16 : Int32) = nI 16 from rfl, nI_eq (by omega) (by decide)]; exact c
    rw [if_neg n1, if_neg n2]
    by_cases c2 : f_room S (68 + jrem (f_see S 3) 16) 3 = 0
    · rw [if_pos c2, if_pos c2]
    · rw [if_neg c2, if_neg c2, put_xa4, put_xa4, xa_xa]
theorem store_same (S : XS) (a v : Int32) : g_store S a v = f_store S a v := by
  unfold g_store f_store
  rw [takes_room]
/-- an instruction other than END and BOUND acts the same on both sides -/
theorem act_same {S : XS} {o a b c : Int32} (h0 : ¬ o = 0) (hb : ∃ j : Nat, j < 256 ∧ b = nI j) (hc : ∃ j : Nat, j < 256 ∧ c = nI j) (hq : o = 12 ∨ o = 13 → ∃ m, m ≤ 4 ∧ f_see S (56 + 6 * b + 1) = nI m) (hs : o = 15 → ∃ d, d ≤ 16 ∧ f_see S 3 - S.2 0 4 = nI d) (h17 : o.toInt ≤ 16) (h17' : 0 ≤ o.toInt) : g_act S o a b c = f_act S o a b c := by
  unfold g_act f_act
  rw [if_neg h0, if_neg h0, set_word hb hc]
  by_cases c6 : o = 6
  · subst c6
    simp (decide := true) only [if_true, if_false, xs_id]
  by_cases c12 : o = 12
  · subst c12
    obtain ⟨m, m1, m2⟩ := hq (Or.inl rfl)
    simp (decide := true) only [if_true, if_false]
    exact push_same m1 m2
  by_cases c13 : o = 13
  · subst c13
    obtain ⟨m, m1, m2⟩ := hq (Or.inr rfl)
    simp (decide := true) only [if_true, if_false]
    exact pop_same m1 m2
  by_cases c15 : o = 15
  · subst c15
    obtain ⟨d, d1, d2⟩ := hs rfl
    simp (decide := true) only [if_true, if_false]
    exact send_same d1 d2
  by_cases c16 : o = 16
  · subst c16
    simp (decide := true) only [if_true, if_false]
  have hle : o.toInt ≠ 16 := fun z => c16 (Int32.toInt_inj.mp z)
  simp only [eq_false c6, eq_false c12, eq_false c13, eq_false c15, eq_false c16, if_false, store_same]
  have k : o = 1 ∨ o = 2 ∨ o = 3 ∨ o = 4 ∨ o = 5 ∨ o = 7 ∨ o = 8 ∨ o = 9 ∨ o = 10 ∨ o = 11 ∨ o = 14 := by
    have n0 : o.toInt ≠ 0 := fun z => h0 (Int32.toInt_inj.mp z)
    have n6 : o.toInt ≠ 6 := fun z => c6 (Int32.toInt_inj.mp z)
    have n12 : o.toInt ≠ 12 := fun z => c12 (Int32.toInt_inj.mp z)
    have n13 : o.toInt ≠ 13 := fun z => c13 (Int32.toInt_inj.mp z)
    have n15 : o.toInt ≠ 15 := fun z => c15 (Int32.toInt_inj.mp z)
    rcases (show o.toInt = 1 ∨ o.toInt = 2 ∨ o.toInt = 3 ∨ o.toInt = 4 ∨ o.toInt = 5 ∨ o.toInt = 7 ∨ o.toInt = 8 ∨ o.toInt = 9 ∨ o.toInt = 10 ∨ o.toInt = 11 ∨ o.toInt = 14 by omega) with e | e | e | e | e | e | e | e | e | e | e
    · exact Or.inl (Int32.toInt_inj.mp e)
    · exact Or.inr (Or.inl (Int32.toInt_inj.mp e))
    · exact Or.inr (Or.inr (Or.inl (Int32.toInt_inj.mp e)))
    · exact Or.inr (Or.inr (Or.inr (Or.inl (Int32.toInt_inj.mp e))))
    · exact Or.inr (Or.inr (Or.inr (Or.inr (Or.inl (Int32.toInt_inj.mp e)))))
    · exact Or.inr (Or.inr (Or.inr (Or.inr (Or.inr (Or.inl (Int32.toInt_inj.mp e))))))
    · exact Or.inr (Or.inr (Or.inr (Or.inr (Or.inr (Or.inr (Or.inl (Int32.toInt_inj.mp e)))))))
    · exact Or.inr (Or.inr (Or.inr (Or.inr (Or.inr (Or.inr (Or.inr (Or.inl (Int32.toInt_inj.mp e))))))))
    · exact Or.inr (Or.inr (Or.inr (Or.inr (Or.inr (Or.inr (Or.inr (Or.inr (Or.inl (Int32.toInt_inj.mp e)))))))))
    · exact Or.inr (Or.inr (Or.inr (Or.inr (Or.inr (Or.inr (Or.inr (Or.inr (Or.inr (Or.inl (Int32.toInt_inj.mp e))))))))))
    · exact Or.inr (Or.inr (Or.inr (Or.inr (Or.inr (Or.inr (Or.inr (Or.inr (Or.inr (Or.inr (Int32.toInt_inj.mp e))))))))))
  rcases k with e | e | e | e | e | e | e | e | e | e | e <;> subst e <;> simp (decide := true) only [if_true, if_false]
/-- states that agree where an attempt looks -/
def E (T S : XS) : Prop := (∀ j, j ≠ 11 → T.2 j = S.2 j) ∧ ∀ i, i ≤ 10 ∨ i = 12 ∨ i = 13 ∨ i = 14 → T.1 i = S.1 i
section EE
variable {T S : XS}
theorem E.s (h : E T S) (k : Nat) (v : Int32) : E (xs T k v) (xs S k v) := ⟨h.1, fun i hi => by
  by_cases c : i = k
  · rw [c, s1s, s1s]
  · rw [s1n _ _ c, s1n _ _ c]; exact h.2 i hi⟩
theorem E.a (h : E T S) (j i : Nat) (v : Int32) : E (xa T j i v) (xa S j i v) := ⟨fun j' hj => by
  by_cases c : j' = j
  · subst c
    rw [a2s, a2s, h.1 _ hj]
  · rw [a2n _ _ _ c, a2n _ _ _ c]; exact h.1 j' hj, h.2⟩
theorem E.place (h : E T S) (a : Int32) : f_place T a = f_place S a := by
  unfold f_place
  rw [h.1 2 (by decide), h.2 12 (by omega)]
theorem E.see (h : E T S) (a : Int32) : f_see T a = f_see S a := by
  unfold f_see
  rw [h.place, h.1 0 (by decide), h.1 3 (by decide)]
theorem E.room (h : E T S) (a b : Int32) : f_room T a b = f_room S a b := by
  unfold f_room f_more
  rw [h.place, h.place, h.2 12 (by omega)]
theorem E.put (h : E T S) (a v : Int32) : E (f_put T a v) (f_put S a v) := by
  unfold f_put
  rw [h.place, h.2 12 (by omega)]
  by_cases c : f_place S a = -1
  · rw [if_pos c, if_pos c]
    exact ((h.s _ _).a _ _ _).a _ _ _
  · rw [if_neg c, if_neg c]
    exact h.a _ _ _
theorem E.store (h : E T S) (a v : Int32) : E (f_store T a v) (f_store S a v) := by
  unfold f_store
  rw [h.room]
  by_cases c : f_room S a a = 0
  · rw [if_pos c, if_pos c]; exact h
  · rw [if_neg c, if_neg c]; exact h.put a v
theorem E.push (h : E T S) (a v : Int32) : E (f_push1 T a v) (f_push1 S a v) := by
  unfold f_push1 f_push2
  rw [h.see, h.see, (h.a 4 7 0).room]
  split
  · exact h.a 4 7 0
  · split
    · exact h.a 4 7 0
    · exact (((h.a 4 7 0).put _ _).put _ _).a 4 7 1
theorem E.pop (h : E T S) (a r : Int32) : E (f_pop1 T a (f_see T a) (f_see T (a + 1)) r) (f_pop1 S a (f_see S a) (f_see S (a + 1)) r) := by
  unfold f_pop1 f_pop2
  rw [h.see, h.see, h.see, h.room]
  split
  · exact (h.a _ _ _).a _ _ _
  · split
    · exact h.a _ _ _
    · exact (((h.a _ _ _).put _ _).put _ _).a _ _ _
theorem E.send (h : E T S) (v : Int32) : E (f_send T v) (f_send S v) := by
  unfold f_send f_send2
  rw [h.see, (h.a 4 7 0).room, (h.a 4 7 0).1 0 (by decide)]
  split
  · exact h.a 4 7 0
  · split
    · exact h.a 4 7 0
    · exact (((h.a 4 7 0).put _ _).put _ _).a 4 7 1
theorem E.act (h : E T S) {o a b c : Int32} (h0 : ¬ o = 0) (h17 : o.toInt ≤ 16) (h17' : 0 ≤ o.toInt) : E (f_act T o a b c) (f_act S o a b c) := by
  have e4 := h.1 4 (by decide)
  have e5 := h.1 5 (by decide)
  have k : ∀ n : Nat, n ≤ 16 → o.toInt = n → o = nI n := fun n hn e => Int32.toInt_inj.mp (by rw [e, nI_toInt (by omega)])
  have n0 : o.toInt ≠ 0 := fun z => h0 (Int32.toInt_inj.mp z)
  unfold f_act
  rw [if_neg h0, if_neg h0]
  by_cases c1 : o = 1
  · rw [if_pos c1, if_pos c1]; exact h.a _ _ _
  rw [if_neg c1, if_neg c1]
  by_cases c2 : o = 2
  · rw [if_pos c2, if_pos c2, e4]; exact h.a _ _ _
  rw [if_neg c2, if_neg c2]
  by_cases c3 : o = 3
  · rw [if_pos c3, if_pos c3, e4]; exact h.a _ _ _
  rw [if_neg c3, if_neg c3]
  by_cases c4 : o = 4
  · rw [if_pos c4, if_pos c4, e4]; exact h.a _ _ _
  rw [if_neg c4, if_neg c4]
  by_cases c5 : o = 5
  · rw [if_pos c5, if_pos c5, e4]; exact h.a _ _ _
  rw [if_neg c5, if_neg c5]
  by_cases c6 : o = 6
  · rw [if_pos c6, if_pos c6, e4]
    split
    · exact h.s _ _
    · exact h
  rw [if_neg c6, if_neg c6]
  by_cases c7 : o = 7
  · rw [if_pos c7, if_pos c7]; exact h.s _ _
  rw [if_neg c7, if_neg c7]
  by_cases c8 : o = 8
  · rw [if_pos c8, if_pos c8, h.see]; exact h.a _ _ _
  rw [if_neg c8, if_neg c8]
  by_cases c9 : o = 9
  · rw [if_pos c9, if_pos c9, e4]; exact h.store _ _
  rw [if_neg c9, if_neg c9]
  have er : f_rw b c T = f_rw b c S := by unfold f_rw; rw [e4]
  by_cases c10 : o = 10
  · rw [if_pos c10, if_pos c10, er, h.see]; exact h.a _ _ _
  rw [if_neg c10, if_neg c10]
  by_cases c11 : o = 11
  · rw [if_pos c11, if_pos c11, er, e4]; exact h.store _ _
  rw [if_neg c11, if_neg c11]
  by_cases c12 : o = 12
  · rw [if_pos c12, if_pos c12, e4]; exact h.push _ _
  rw [if_neg c12, if_neg c12]
  by_cases c13 : o = 13
  · rw [if_pos c13, if_pos c13]; exact h.pop _ _
  rw [if_neg c13, if_neg c13]
  by_cases c14 : o = 14
  · rw [if_pos c14, if_pos c14, e5]; exact h.a _ _ _
  rw [if_neg c14, if_neg c14]
  by_cases c15 : o = 15
  · rw [if_pos c15, if_pos c15, e4]; exact h.send _
  rw [if_neg c15, if_neg c15]
  have c16 : o = 16 := by
    have z : ∀ n : Nat, n ≤ 16 → ¬ o = nI n → o.toInt ≠ n := fun n hn e q => e (k n hn q)
    have z1 := z 1 (by decide) c1
    have z2 := z 2 (by decide) c2
    have z3 := z 3 (by decide) c3
    have z4 := z 4 (by decide) c4
    have z5 := z 5 (by decide) c5
    have z6 := z 6 (by decide) c6
    have z7 := z 7 (by decide) c7
    have z8 := z 8 (by decide) c8
    have z9 := z 9 (by decide) c9
    have z10 := z 10 (by decide) c10
    have z11 := z 11 (by decide) c11
    have z12 := z 12 (by decide) c12
    have z13 := z 13 (by decide) c13
    have z14 := z 14 (by decide) c14
    have z15 := z 15 (by decide) c15
    exact k 16 (by decide) (by omega)
  rw [if_pos c16, if_pos c16, h.2 1 (by omega)]
  exact h.s _ _
end EE
