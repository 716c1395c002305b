/-! THE PLAIN LAW, first part: states read; what an attempt sees; the two sides' functions agree -/
set_option maxRecDepth 100000
theorem s1s (S : XS) (k : Nat) (v : Int32) : (xs S k v).1 k = v := by simp [xs]
theorem s1n (S : XS) {k i : Nat} (v : Int32) (h : i ≠ k) : (xs S k v).1 i = S.1 i := by simp [xs, h]
theorem s2 (S : XS) (k : Nat) (v : Int32) : (xs S k v).2 = S.2 := rfl
theorem a1 (S : XS) (j i : Nat) (v : Int32) : (xa S j i v).1 = S.1 := rfl
theorem a2s (S : XS) (j i : Nat) (v : Int32) : (xa S j i v).2 j = upd (S.2 j) i v := by simp [xa]
theorem a2n (S : XS) {j j' : Nat} (i : Nat) (v : Int32) (h : j' ≠ j) : (xa S j i v).2 j' = S.2 j' := by simp [xa, h]
theorem upd_id (f : Nat → Int32) (k : Nat) : upd f k (f k) = f := by
  funext j
  by_cases c : j = k
  · rw [c, pk_us]
  · rw [pk_un c]
theorem upd_upd (f : Nat → Int32) (k : Nat) (v w : Int32) : upd (upd f k v) k w = upd f k w := by
  funext j
  by_cases c : j = k
  · rw [c, pk_us, pk_us]
  · rw [pk_un c, pk_un c, pk_un c]
theorem upd_comm (f : Nat → Int32) {k j : Nat} (v w : Int32) (h : k ≠ j) : upd (upd f k v) j w = upd (upd f j w) k v := by
  funext i
  by_cases c : i = j
  · subst c
    rw [pk_us, pk_un (Ne.symm h), pk_us]
  · by_cases c2 : i = k
    · subst c2
      rw [pk_un c, pk_us, pk_us]
    · rw [pk_un c, pk_un c2, pk_un c2, pk_un c]
/-! searching a row -/
theorem find_none {w : Nat → Int32} {a : Int32} : ∀ {n k : Nat}, k + n < 2 ^ 31 → (f_find w a n k = -1 ↔ ∀ e, k ≤ e → e < k + n → ¬ w e = a)
  | 0, k, _ => ⟨fun _ e h1 h2 => absurd h2 (by omega), fun _ => rfl⟩
  | n + 1, k, hk => by
    unfold f_find
    by_cases c : w k = a
    · rw [if_pos c]
      constructor
      · intro h
        have : ¬ nI k < 0 := nI_pos (by omega)
        rw [h] at this
        exact absurd (by decide) this
      · intro h
        exact absurd c (h k (by omega) (by omega))
    · rw [if_neg c, find_none (n := n) (k := k + 1) (by omega)]
      constructor
      · intro h e h1 h2
        by_cases e1 : e = k
        · rw [e1]; exact c
        · exact h e (by omega) (by omega)
      · intro h e h1 h2
        exact h e (by omega) (by omega)
theorem find_some {w : Nat → Int32} {a : Int32} : ∀ {n k : Nat}, k + n < 2 ^ 31 → ¬ f_find w a n k = -1 → ∃ e, k ≤ e ∧ e < k + n ∧ f_find w a n k = nI e ∧ w e = a := by
  intro n k hk h
  rcases f_find_in w a n k with e | ⟨j, h1, h2, h3, h4⟩
  · exact absurd e h
  · exact ⟨j, h1, h2, h3, h4⟩
theorem find_congr {w w' : Nat → Int32} {a : Int32} : ∀ {n k : Nat}, (∀ e, k ≤ e → e < k + n → w e = w' e) → f_find w a n k = f_find w' a n k
  | 0, _, _ => rfl
  | n + 1, k, h => by
    unfold f_find
    rw [h k (by omega) (by omega), find_congr (n := n) (k := k + 1) (fun e h1 h2 => h e (by omega) (by omega))]
theorem find_ext {w : Nat → Int32} {a : Int32} : ∀ {n k : Nat}, k + n + 1 < 2 ^ 31 → f_find w a (n + 1) k = if f_find w a n k = -1 then (if w (k + n) = a then nI (k + n) else -1) else f_find w a n k
  | 0, k, _ => by
    unfold f_find
    rw [if_pos rfl]
    rfl
  | n + 1, k, hk => by
    have ih := find_ext (w := w) (a := a) (n := n) (k := k + 1) (by omega)
    have e1 : f_find w a (n + 1 + 1) k = if w k = a then nI k else f_find w a (n + 1) (k + 1) := rfl
    have e2 : f_find w a (n + 1) k = if w k = a then nI k else f_find w a n (k + 1) := rfl
    rw [e1, e2]
    by_cases c : w k = a
    · rw [if_pos c, if_pos c, if_neg]
      intro h
      have : ¬ nI k < 0 := nI_pos (by omega)
      rw [h] at this
      exact absurd (by decide) this
    · rw [if_neg c, if_neg c, ih, show k + 1 + n = k + (n + 1) by omega]
/-- the value at a of a row w of words, behind the n entries (wh, wt) -/
def fv (w wh wt : Nat → Int32) (n : Nat) (a : Int32) : Int32 := if f_find wh a n 0 = -1 then w (ix a) else wt (ix (f_find wh a n 0))
theorem see_fv {S : XS} {p : Nat} (hp : S.1 12 = nI p) (h : p < 2 ^ 31) (a : Int32) : f_see S a = fv (S.2 0) (S.2 2) (S.2 3) p a := by
  unfold f_see fv f_place
  rw [hp, show ix (nI p) = p from nI_clamp h]
/-- a put, as it is seen -/
theorem see_put {S : XS} {p : Nat} {a v : Int32} (hp : S.1 12 = nI p) (h : p < 1000) (b : Int32) : f_see (f_put S a v) b = if b = a then v else f_see S b := by
  have ep : ix (S.1 12) = p := by rw [hp]; exact nI_clamp (by omega)
  by_cases c : f_place S a = -1
  · have e1 : f_put S a v = xa (xa (xs S 12 (S.1 12 + 1)) 2 (ix (S.1 12)) a) 3 (ix (S.1 12)) v := if_pos c
    have hn : f_find (S.2 2) a p 0 = -1 := by
      have : f_place S a = f_find (S.2 2) a p 0 := by unfold f_place; rw [ep]
      rw [← this]; exact c
    have hq : (f_put S a v).1 12 = nI (p + 1) := by rw [e1]; show S.1 12 + 1 = _; rw [hp, nI_1]
    rw [see_fv hq (by omega), see_fv hp (by omega)]
    have h0 : (f_put S a v).2 0 = S.2 0 := by rw [e1]; rfl
    have h2 : (f_put S a v).2 2 = upd (S.2 2) p a := by rw [e1, ep]; rfl
    have h3 : (f_put S a v).2 3 = upd (S.2 3) p v := by rw [e1, ep]; rfl
    unfold fv
    rw [h0, h2, h3, find_ext (n := p) (k := 0) (by omega)]
    have hc : f_find (upd (S.2 2) p a) b p 0 = f_find (S.2 2) b p 0 := find_congr (fun e _ h2 => pk_un (by omega))
    rw [hc, Nat.zero_add, pk_us]
    by_cases c2 : b = a
    · subst c2
      rw [hn, if_pos rfl, if_pos rfl, if_pos rfl, if_neg, show ix (nI p) = p from nI_clamp (by omega), pk_us]
      intro z
      have : ¬ nI p < 0 := nI_pos (by omega)
      rw [z] at this
      exact absurd (by decide) this
    · have c2' : ¬ a = b := fun z => c2 z.symm
      simp only [eq_false c2', eq_false c2, if_false]
      by_cases c3 : f_find (S.2 2) b p 0 = -1
      · simp only [c3, if_true]
      · simp only [eq_false c3, if_false]
        obtain ⟨e, _, he, h4, _⟩ := find_some (by omega) c3
        rw [h4, show ix (nI e) = e from nI_clamp (by omega), pk_un (by omega)]
  · have e1 : f_put S a v = xa S 3 (ix (f_place S a)) v := if_neg c
    have hq : (f_put S a v).1 12 = nI p := by rw [e1]; exact hp
    have hpl : f_place S a = f_find (S.2 2) a p 0 := by unfold f_place; rw [ep]
    rw [hpl] at c
    obtain ⟨k, _, hk, h5, h6⟩ := find_some (by omega) c
    have ek : ix (f_place S a) = k := by rw [hpl, h5]; exact nI_clamp (by omega)
    rw [see_fv hq (by omega), see_fv hp (by omega)]
    have h0 : (f_put S a v).2 0 = S.2 0 := by rw [e1]; rfl
    have h2 : (f_put S a v).2 2 = S.2 2 := by rw [e1]; rfl
    have h3 : (f_put S a v).2 3 = upd (S.2 3) k v := by rw [e1, ek]; rfl
    unfold fv
    rw [h0, h2, h3]
    by_cases c2 : b = a
    · subst c2
      rw [if_neg c, if_pos rfl, h5, show ix (nI k) = k from nI_clamp (by omega), pk_us]
    · rw [if_neg c2]
      by_cases c3 : f_find (S.2 2) b p 0 = -1
      · rw [if_pos c3, if_pos c3]
      · rw [if_neg c3, if_neg c3]
        obtain ⟨e, _, he, h7, h8⟩ := find_some (by omega) c3
        rw [h7, show ix (nI e) = e from nI_clamp (by omega), pk_un]
        intro z
        subst z
        exact c2 (h8.symm.trans h6)
/-! the two sides' functions -/
theorem takes_room (S : XS) (a b : Int32) : g_takes S a b = f_room S a b := by
  unfold g_takes f_room g_m1 g_m2 f_more
  by_cases c1 : f_place S a = -1 <;> by_cases c2 : b = a <;> by_cases c3 : f_place S b = -1 <;> simp [c1, c2, c3, Int32.add_assoc]
theorem max_most (S : XS) (t : Int32) : g_max (S.2 6 (ix t)) (S.1 2) = f_most S t := by
  unfold g_max f_most
  by_cases c : S.2 6 (ix t) ≤ S.1 2
  · rw [if_pos c]
    by_cases c2 : S.2 6 (ix t) < S.1 2
    · rw [if_pos c2]
    · rw [if_neg c2]
      rw [Int32.le_iff_toInt_le] at c
      rw [Int32.lt_iff_toInt_lt] at c2
      exact Int32.toInt_inj.mp (by omega)
  · rw [if_neg c, if_neg]
    rw [Int32.le_iff_toInt_le] at c
    rw [Int32.lt_iff_toInt_lt]
    omega
theorem min_le (x y : Int32) : g_min x y = if x ≤ y then x else y := by
  unfold g_min
  by_cases c : x ≤ y
  · rw [if_pos c, if_neg]
    rw [Int32.le_iff_toInt_le] at c
    rw [Int32.lt_iff_toInt_lt]
    omega
  · rw [if_neg c, if_pos]
    rw [Int32.le_iff_toInt_le] at c
    rw [Int32.lt_iff_toInt_lt]
    omega
theorem cost_same {w : Int32} (h : wOk w) : y_cost (ix (f_op w)) = f_cost (f_op w) := by
  obtain ⟨j, hj, e⟩ := vp_in_of (w_op h) (by decide)
  rw [e, show ix (nI j) = j from nI_clamp (by omega)]
  exact (by decide +kernel : ∀ j : Fin 18, y_cost j.val = f_cost (nI j.val)) ⟨j, hj⟩
theorem set_word {b c : Int32} (hb : ∃ j : Nat, j < 256 ∧ b = nI j) (hc : ∃ j : Nat, j < 256 ∧ c = nI j) : b <<< ((8 : Int32) &&& 31) ||| c = 256 * b + c := by
  obtain ⟨i, hi, rfl⟩ := hb
  obtain ⟨j, hj, rfl⟩ := hc
  have h1 : nI i <<< ((8 : Int32) &&& 31) = nI (i * 256) := pk_shlN _ 8 (by decide) (by omega)
  rw [h1, show (256 : Int32) = nI 256 from rfl, pk_mul, nI_add]
  apply Int32.toBitVec_inj.mp
  rw [Int32.toBitVec_or]
  apply BitVec.eq_of_toNat_eq
  rw [BitVec.toNat_or, pk_tn (by omega), pk_tn (by omega), pk_tn (by omega)]
  have : i * 256 ||| j = i * 256 + j := by
    have := Nat.two_pow_add_eq_or_of_lt (i := 8) (b := j) (by omega) i
    rw [show 2 ^ 8 * i = i * 256 by omega] at this
    exact this.symm
  rw [this]
  omega
