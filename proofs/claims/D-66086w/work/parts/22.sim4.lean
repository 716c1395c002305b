/-! THE PLAIN LAW, fourth part: what an instruction leaves; what a right instruction promises -/
set_option maxRecDepth 100000
/-- X differs from U in registers, pending words, next, bound alone -/
def Fr (U X : XS) : Prop := (∀ j, j ≠ 2 → j ≠ 3 → j ≠ 4 → X.2 j = U.2 j) ∧ ∀ i, i ≠ 9 → i ≠ 10 → i ≠ 12 → X.1 i = U.1 i
theorem Fr.rf (U : XS) : Fr U U := ⟨fun _ _ _ _ => rfl, fun _ _ _ _ => rfl⟩
section FF
variable {U X : XS}
theorem Fr.a4 (h : Fr U X) (i : Nat) (v : Int32) : Fr U (xa X 4 i v) := ⟨fun j h2 h3 h4 => by rw [a2n _ _ _ h4]; exact h.1 j h2 h3 h4, h.2⟩
theorem Fr.s9 (h : Fr U X) (v : Int32) : Fr U (xs X 9 v) := ⟨h.1, fun i h1 h2 h3 => by rw [s1n _ _ h1]; exact h.2 i h1 h2 h3⟩
theorem Fr.s10 (h : Fr U X) (v : Int32) : Fr U (xs X 10 v) := ⟨h.1, fun i h1 h2 h3 => by rw [s1n _ _ h2]; exact h.2 i h1 h2 h3⟩
theorem Fr.put (h : Fr U X) (a v : Int32) : Fr U (f_put X a v) := by
  unfold f_put
  split
  · refine ⟨fun j h2 h3 h4 => ?_, fun i h1 h2 h3 => ?_⟩
    · rw [a2n _ _ _ h3, a2n _ _ _ h2]; exact h.1 j h2 h3 h4
    · show (xs X 12 _).1 i = _
      rw [s1n _ _ h3]; exact h.2 i h1 h2 h3
  · exact ⟨fun j h2 h3 h4 => by rw [a2n _ _ _ h3]; exact h.1 j h2 h3 h4, h.2⟩
theorem Fr.store (h : Fr U X) (a v : Int32) : Fr U (f_store X a v) := by
  unfold f_store
  split
  · exact h
  · exact h.put a v
theorem Fr.push (h : Fr U X) (a v : Int32) : Fr U (f_push1 X a v) := by
  unfold f_push1 f_push2
  split
  · exact h.a4 _ _
  · split
    · exact h.a4 _ _
    · exact (((h.a4 _ _).put _ _).put _ _).a4 _ _
theorem Fr.pop (h : Fr U X) (a f m r : Int32) : Fr U (f_pop1 X a f m r) := by
  unfold f_pop1 f_pop2
  split
  · exact (h.a4 _ _).a4 _ _
  · split
    · exact h.a4 _ _
    · exact (((h.a4 _ _).put _ _).put _ _).a4 _ _
theorem Fr.send (h : Fr U X) (v : Int32) : Fr U (f_send X v) := by
  unfold f_send f_send2
  split
  · exact h.a4 _ _
  · split
    · exact h.a4 _ _
    · exact (((h.a4 _ _).put _ _).put _ _).a4 _ _
end FF
theorem put_9 (S : XS) (a v : Int32) : (f_put S a v).1 9 = S.1 9 := by
  unfold f_put
  split <;> rfl
theorem o_case {o : Int32} (h0 : ¬ o = 0) (h1 : o.toInt ≤ 16) (h2 : 0 ≤ o.toInt) : o = 1 ∨ o = 2 ∨ o = 3 ∨ o = 4 ∨ o = 5 ∨ o = 6 ∨ o = 7 ∨ o = 8 ∨ o = 9 ∨ o = 10 ∨ o = 11 ∨ o = 12 ∨ o = 13 ∨ o = 14 ∨ o = 15 ∨ o = 16 := by
  have n0 : o.toInt ≠ 0 := fun z => h0 (Int32.toInt_inj.mp z)
  obtain ⟨j, hj, e⟩ : ∃ j : Fin 17, j.val ≠ 0 ∧ o = nI j.val := ⟨⟨o.toInt.toNat, by omega⟩, by show o.toInt.toNat ≠ 0; omega, Int32.toInt_inj.mp (by show _ = (nI o.toInt.toNat).toInt; rw [nI_toInt (by omega)]; omega)⟩
  rw [e]
  exact (by decide +kernel : ∀ j : Fin 17, j.val ≠ 0 → nI j.val = 1 ∨ nI j.val = 2 ∨ nI j.val = 3 ∨ nI j.val = 4 ∨ nI j.val = 5 ∨ nI j.val = 6 ∨ nI j.val = 7 ∨ nI j.val = 8 ∨ nI j.val = 9 ∨ nI j.val = 10 ∨ nI j.val = 11 ∨ nI j.val = 12 ∨ nI j.val = 13 ∨ nI j.val = 14 ∨ nI j.val = 15 ∨ nI j.val = 16) j hj
theorem act_fr (U : XS) {o a b c : Int32} (h0 : ¬ o = 0) (h1 : o.toInt ≤ 16) (h2 : 0 ≤ o.toInt) : Fr U (f_act U o a b c) ∧ ((f_act U o a b c).1 9 = U.1 9 ∧ ¬ o = 7 ∨ (o = 6 ∨ o = 7) ∧ (f_act U o a b c).1 9 = b) := by
  rcases o_case h0 h1 h2 with e | e | e | e | e | e | e | e | e | e | e | e | e | e | e | e <;> subst e <;> simp (decide := true) only [f_act, if_true, if_false]
  · exact ⟨(Fr.rf U).a4 _ _, Or.inl ⟨rfl, by decide⟩⟩
  · exact ⟨(Fr.rf U).a4 _ _, Or.inl ⟨rfl, by decide⟩⟩
  · exact ⟨(Fr.rf U).a4 _ _, Or.inl ⟨rfl, by decide⟩⟩
  · exact ⟨(Fr.rf U).a4 _ _, Or.inl ⟨rfl, by decide⟩⟩
  · exact ⟨(Fr.rf U).a4 _ _, Or.inl ⟨rfl, by decide⟩⟩
  · split
    · exact ⟨(Fr.rf U).s9 _, Or.inr ⟨trivial, s1s _ _ _⟩⟩
    · exact ⟨Fr.rf U, Or.inl ⟨rfl, by decide⟩⟩
  · exact ⟨(Fr.rf U).s9 _, Or.inr ⟨trivial, s1s _ _ _⟩⟩
  · exact ⟨(Fr.rf U).a4 _ _, Or.inl ⟨rfl, by decide⟩⟩
  · refine ⟨(Fr.rf U).store _ _, Or.inl ⟨?_, by decide⟩⟩
    unfold f_store; split
    · rfl
    · exact put_9 _ _ _
  · exact ⟨(Fr.rf U).a4 _ _, Or.inl ⟨rfl, by decide⟩⟩
  · refine ⟨(Fr.rf U).store _ _, Or.inl ⟨?_, by decide⟩⟩
    unfold f_store; split
    · rfl
    · exact put_9 _ _ _
  · refine ⟨(Fr.rf U).push _ _, Or.inl ⟨?_, by decide⟩⟩
    unfold f_push f_push1 f_push2
    split
    · rfl
    · split
      · rfl
      · rw [a1, put_9, put_9]; rfl
  · refine ⟨(Fr.rf U).pop _ _ _ _, Or.inl ⟨?_, by decide⟩⟩
    unfold f_pop f_pop1 f_pop2
    split
    · rfl
    · split
      · rfl
      · rw [a1, put_9, put_9]; rfl
  · exact ⟨(Fr.rf U).a4 _ _, Or.inl ⟨rfl, by decide⟩⟩
  · refine ⟨(Fr.rf U).send _, Or.inl ⟨?_, by decide⟩⟩
    unfold f_send f_send2
    split
    · rfl
    · split
      · rfl
      · rw [a1, put_9, put_9]; rfl
  · exact ⟨(Fr.rf U).s10 _, Or.inl ⟨rfl, by decide⟩⟩
theorem rw_num {b : Nat} (hb : b < 4) (c : Int32) (S : XS) : ∃ a, 24 ≤ a ∧ a < 56 ∧ f_rw (nI b) c S = nI a := by
  obtain ⟨j, j1, j2⟩ := pk_andE (S.2 4 (ix c)) (m := 7) 3 (by decide)
  refine ⟨24 + 8 * b + j, by omega, by omega, ?_⟩
  unfold f_rw
  rw [j2, show (8 : Int32) = nI 8 from rfl, pk_mul, show (24 : Int32) = nI 24 from rfl, nI_add, nI_add]
theorem PV.mono {c c' : Nat} {sz : Nat → Int32} {S : XS} (h : PV c sz S) (hc : c ≤ c') : PV c' sz S := by
  obtain ⟨p, h1, h2, h3⟩ := h
  exact ⟨p, h1, h2, h3.mono hc⟩
theorem act_PV {c : Nat} {sz : Nat → Int32} {U : XS} {w : Int32} (h : PV c sz U) (hc : c < 100000) (hw : wOk w) (h0 : ¬ f_op w = 0) (h1 : (f_op w).toInt ≤ 16) : PV (c + 1) sz (f_act U (f_op w) (f_a w) (f_b w) (f_c w)) := by
  have hm := h.mono (Nat.le_succ c)
  have h2 : 0 ≤ (f_op w).toInt := by
    obtain ⟨j, hj, e⟩ := f_op_nn w
    rw [e, nI_toInt (by omega)]; omega
  have b16 := fun q => w_b16 hw q
  have b4 := fun q => w_b4 hw q
  have b2 := fun q => w_b2 hw q
  generalize f_a w = a
  generalize f_c w = cc
  generalize hb : f_b w = b at b16 b4 b2 ⊢
  generalize ho : f_op w = o at h0 h1 h2 b16 b4 b2 ⊢
  rcases o_case h0 h1 h2 with e | e | e | e | e | e | e | e | e | e | e | e | e | e | e | e <;> subst e <;> simp (decide := true) only [f_act, if_true, if_false]
  · exact hm
  · exact hm
  · exact hm
  · exact hm
  · exact hm
  · split
    · exact hm
    · exact hm
  · exact hm
  · exact hm
  · obtain ⟨j, hj, rfl⟩ := vp_in_of (b16 (by decide)) (by decide)
    rw [show (8 : Int32) = nI 8 from rfl, nI_add]
    exact hm.store (by omega)
  · exact hm
  · obtain ⟨j, hj, rfl⟩ := vp_in_of (b4 (by decide)) (by decide)
    obtain ⟨k, k1, k2, k3⟩ := rw_num hj cc U
    rw [k3]
    exact hm.store (by omega)
  · obtain ⟨j, hj, rfl⟩ := vp_in_of (b2 (by decide)) (by decide)
    exact hm.push hj
  · obtain ⟨j, hj, rfl⟩ := vp_in_of (b2 (by decide)) (by decide)
    exact hm.pop hj
  · exact hm
  · exact (h.send hc).2
  · exact hm
/-- what a right instruction promises -/
theorem right_facts {S : XS} {t i : Nat} (hs : szOk S) (ht : t < 16) (hi : i < ix (S.2 13 t)) (hr : ¬ f_right S (nI t) (nI i) = 0) : wOk (S.2 12 (32 * t + i)) ∧ (¬ f_op (S.2 12 (32 * t + i)) = 0 → ¬ f_op (S.2 12 (32 * t + i)) = 7 → i + 1 < ix (S.2 13 t)) ∧ (f_op (S.2 12 (32 * t + i)) = 6 ∨ f_op (S.2 12 (32 * t + i)) = 7 → ∃ j, f_b (S.2 12 (32 * t + i)) = nI j ∧ j < ix (S.2 13 t)) ∧ (f_op (S.2 12 (32 * t + i)) = 0 → ∃ j, j < 16 ∧ f_a (S.2 12 (32 * t + i)) = nI j ∧ ¬ S.2 13 j = 0) := by
  obtain ⟨z, z1, z2⟩ := hs t ht
  have ez : ix (S.2 13 t) = z := by rw [z2]; exact nI_clamp (by omega)
  have et : ix (nI t) = t := nI_clamp (by omega)
  rw [ez] at hi ⊢
  have e1 : f_right S (nI t) (nI i) = f_right0 S (nI t) (nI i) (S.2 12 (32 * t + i)) := by
    unfold f_right
    rw [show ix (32 * nI t + nI i) = 32 * t + i from prog_ixc ht (by omega)]
  rw [e1] at hr
  generalize S.2 12 (32 * t + i) = w at hr ⊢
  unfold f_right0 at hr
  rw [et, z2, nI_1] at hr
  have hw : ¬ f_rightW (S.2 13) (nI z) w = 0 := by
    intro q
    apply hr
    split
    · split
      · exact q
      · split
        · exact q
        · rfl
    · exact q
  refine ⟨⟨_, _, hw⟩, fun c0 c7 => ?_, fun c67 => ?_, fun c0 => ?_⟩
  · rcases Nat.lt_or_ge (i + 1) z with q | q
    · exact q
    · exfalso
      apply hr
      rw [if_pos (by rw [nI_eq (by omega) (by omega)]; omega), if_neg c0, if_neg c7]
  · obtain ⟨j, j1, j2⟩ := f_b_nn w
    refine ⟨j, j2, ?_⟩
    rcases Nat.lt_or_ge j z with q | q
    · exact q
    · exfalso
      apply hw
      have hle : nI z ≤ f_b w := by rw [j2]; exact nI_le q (by omega)
      unfold f_rightW
      rcases c67 with e | e <;> simp (decide := true) only [e, if_true, if_false, eq_true hle, ite_self]
  · have h1 : ¬ f_isTask (f_a w) = 0 := by
      intro q
      apply hw
      unfold f_rightW
      simp only [c0, if_true, eq_true q]
    obtain ⟨j, j1, j2⟩ := vp_in_of (f_isTask_in h1) (by decide)
    refine ⟨j, j1, j2, fun q => hw ?_⟩
    unfold f_rightW
    have e2 : S.2 13 (ix (f_a w)) ≤ 0 := by rw [j2, show ix (nI j) = j from nI_clamp (by omega), q]; decide
    simp only [c0, if_true, eq_true e2, ite_self]
