/-! the model: its steps and its face -/
set_option maxRecDepth 100000
theorem f_rightW_out {sz : Nat → Int32} {n w : Int32} (h : (f_op w).toInt < 0 ∨ 17 < (f_op w).toInt) : f_rightW sz n w = 0 := by
  have k : ∀ v : Int32, 0 ≤ v.toInt → v.toInt ≤ 17 → (f_op w = v) = False := fun v a b => eq_false (fun e => by rw [e] at h; omega)
  unfold f_rightW
  simp only [k 0 (by decide) (by decide), k 1 (by decide) (by decide), k 2 (by decide) (by decide), k 3 (by decide) (by decide), k 4 (by decide) (by decide), k 5 (by decide) (by decide), k 6 (by decide) (by decide), k 7 (by decide) (by decide), k 8 (by decide) (by decide), k 9 (by decide) (by decide), k 10 (by decide) (by decide), k 11 (by decide) (by decide), k 12 (by decide) (by decide), k 13 (by decide) (by decide), k 14 (by decide) (by decide), k 15 (by decide) (by decide), k 16 (by decide) (by decide), k 17 (by decide) (by decide), or_self, if_false]
theorem f_act_out {S : XS} {o a b c : Int32} (h : o.toInt < 0 ∨ 16 < o.toInt) : f_act S o a b c = f_bound S a := by
  have k : ∀ v : Int32, 0 ≤ v.toInt → v.toInt ≤ 16 → (o = v) = False := fun v a b => eq_false (fun e => by rw [e] at h; omega)
  unfold f_act
  simp only [k 0 (by decide) (by decide), k 1 (by decide) (by decide), k 2 (by decide) (by decide), k 3 (by decide) (by decide), k 4 (by decide) (by decide), k 5 (by decide) (by decide), k 6 (by decide) (by decide), k 7 (by decide) (by decide), k 8 (by decide) (by decide), k 9 (by decide) (by decide), k 10 (by decide) (by decide), k 11 (by decide) (by decide), k 12 (by decide) (by decide), k 13 (by decide) (by decide), k 14 (by decide) (by decide), k 15 (by decide) (by decide), k 16 (by decide) (by decide), if_false]
theorem f_phase_out {S : XS} (h : (S.1 18).toInt < 1 ∨ 3 < (S.1 18).toInt) : f_phase S = f_commit S := by
  have k : ∀ v : Int32, 1 ≤ v.toInt → v.toInt ≤ 3 → (S.1 18 = v) = False := fun v a b => eq_false (fun e => by rw [e] at h; omega)
  unfold f_phase
  simp only [k 1 (by decide) (by decide), k 2 (by decide) (by decide), k 3 (by decide) (by decide), if_false]
def szOk (S : XS) : Prop := ∀ t, t < 16 → ∃ z, z ≤ 32 ∧ S.2 13 t = nI z
theorem seal_ne {t i : Nat} (ht : t < 16) (hi : i < 32) : ¬ (1 + 32 * nI t + nI i : Int32) = 0 := by
  rw [show (32 : Int32) = nI 32 from rfl, pk_mul, show (1 : Int32) = nI 1 from rfl, nI_add, nI_add]
  exact nI_ne0 (by omega) (by omega)
theorem seal_hit {T : XS} {n t i z : Nat} (hT : f_sealT T (n + 1) t = f_sealT T 16 0) (ez : (T.2 13 t).toNatClampNeg = z) (hz : f_sealI T t z 0 = 1 + 32 * nI t + nI i) (ht : t < 16) (hi : i < 32) : 1 + 32 * nI t + nI i = f_sealT T 16 0 := by
  rw [← hT]
  show _ = (if f_sealI T t (ix (T.2 13 t)) 0 = 0 then _ else _)
  rw [show ix (T.2 13 t) = z from ez, hz, if_neg (seal_ne ht hi)]
theorem seal_hitS {T : XS} {n t i z : Nat} (hT : f_sealT T (n + 1) t = f_sealT T 16 0) (ez : (T.2 13 t).toNatClampNeg = z) (hz : f_sealI T t z 0 = 1 + 32 * nI t + nI i) (ht : t < 16) (hi : i < 32) : T = (if f_sealT T 16 0 = 0 then xs T 14 1 else T) := by
  rw [← seal_hit hT ez hz ht hi, if_neg (seal_ne ht hi)]
theorem i_nle {x y : Int32} (h : ¬ x ≤ y) : y < x := by
  rw [Int32.lt_iff_toInt_lt]
  rw [Int32.le_iff_toInt_le] at h
  omega
def repOk (S : XS) : Prop := S.1 8 < S.2 0 2 → vp_in (84 + 2 * S.1 8) 164 ∧ vp_in (84 + 2 * S.1 8 + 1) 164 ∧ vp_in (S.2 0 (84 + 2 * S.1 8).toNatClampNeg) 164
theorem f_pays_2 {S : XS} {c : Int32} (h : ¬ f_paysR S c = 0) : (f_pays S c).2 = S.2 := by
  unfold f_paysR at h
  unfold f_pays f_spend
  split at h
  · rename_i q
    rw [if_pos q]
    split <;> (try split) <;> rfl
  · exact absurd rfl h
theorem f_pays_1 {S : XS} {c : Int32} (h : ¬ f_paysR S c = 0) (j : Nat) (h0 : j ≠ 0) (h2 : j ≠ 2) : (f_pays S c).1 j = S.1 j := by
  unfold f_paysR at h
  unfold f_pays f_spend
  split at h
  · rename_i q
    rw [if_pos q]
    split <;> (try split) <;> simp [xs, h0, h2]
  · exact absurd rfl h
def airOk (S : XS) : Prop := vp_in (S.2 0 4) 1048576 ∧ vp_in (S.1 13) 1048576
theorem pl_in {x : Int32} (h : vp_in x 1048576) : vp_in (68 + jrem x 16) 164 := by
  obtain ⟨a, a1, rfl⟩ := vp_in_of h (by decide)
  rw [show (16 : Int32) = nI 16 from rfl, jrem_nI (by omega) (by decide) (by decide), show (68 : Int32) = nI 68 from rfl, nI_add]
  exact vp_in_nI (by omega) (by decide)
theorem air_leaf1 {T : XS} (c25 : T.1 7 = 0) (c118 : (xs (xa (xa (xs T 7 1) 8 (jrem (T.1 13) 64).toNatClampNeg (T.2 0 4)) 9 (jrem (T.1 13) 64).toNatClampNeg (T.2 0 (68 + jrem (T.2 0 4) 16).toNatClampNeg)) 13 (T.1 13 + 1)).2 11 (jrem (T.2 0 4) 64).toNatClampNeg = T.2 0 4) : xs (xa (xa (xs T 7 1) 8 (jrem (T.1 13) 64).toNatClampNeg (T.2 0 4)) 9 (jrem (T.1 13) 64).toNatClampNeg (T.2 0 (68 + jrem (T.2 0 4) 16).toNatClampNeg)) 13 (T.1 13 + 1) = f_air1 T := by
  unfold f_air1 f_out f_far
  rw [if_pos c25]
  exact (if_pos c118).symm
theorem air_leaf2 {T : XS} (c25 : T.1 7 = 0) (c118 : ¬ (xs (xa (xa (xs T 7 1) 8 (jrem (T.1 13) 64).toNatClampNeg (T.2 0 4)) 9 (jrem (T.1 13) 64).toNatClampNeg (T.2 0 (68 + jrem (T.2 0 4) 16).toNatClampNeg)) 13 (T.1 13 + 1)).2 11 (jrem (T.2 0 4) 64).toNatClampNeg = T.2 0 4) : xa (xa (xs (xa (xa (xs T 7 1) 8 (jrem (T.1 13) 64).toNatClampNeg (T.2 0 4)) 9 (jrem (T.1 13) 64).toNatClampNeg (T.2 0 (68 + jrem (T.2 0 4) 16).toNatClampNeg)) 13 (T.1 13 + 1)) 11 (jrem (T.2 0 4) 64).toNatClampNeg (T.2 0 4)) 10 (jrem (T.2 0 4) 64).toNatClampNeg (T.2 0 (68 + jrem (T.2 0 4) 16).toNatClampNeg) = f_air1 T := by
  unfold f_air1 f_out f_far
  rw [if_pos c25]
  exact (if_neg c118).symm
theorem q_in0 {q : Int32} (h : vp_in q 2) : vp_in (56 + 6 * q) 164 := by
  obtain ⟨a, a1, rfl⟩ := vp_in_of h (by decide)
  rw [show (6 : Int32) = nI 6 from rfl, pk_mul, show (56 : Int32) = nI 56 from rfl, nI_add]
  exact vp_in_nI (by omega) (by decide)
theorem q_in {q : Int32} (h : vp_in q 2) (k : Nat) (hk : k < 6) : vp_in (56 + 6 * q + nI k) 164 := by
  obtain ⟨a, a1, rfl⟩ := vp_in_of h (by decide)
  rw [show (6 : Int32) = nI 6 from rfl, pk_mul, show (56 : Int32) = nI 56 from rfl, nI_add, nI_add]
  exact vp_in_nI (by omega) (by decide)
theorem q_in1 {q : Int32} (h : vp_in q 2) : vp_in (56 + 6 * q + 1) 164 := q_in h 1 (by decide)
theorem q_inf {q f : Int32} (h : vp_in q 2) (hf : vp_in f 4) : vp_in (56 + 6 * q + 2 + f) 164 := by
  obtain ⟨a, a1, rfl⟩ := vp_in_of h (by decide)
  obtain ⟨b, b1, rfl⟩ := vp_in_of hf (by decide)
  rw [show (6 : Int32) = nI 6 from rfl, pk_mul, show (56 : Int32) = nI 56 from rfl, nI_add, show (2 : Int32) = nI 2 from rfl, nI_add, nI_add]
  exact vp_in_nI (by omega) (by decide)
theorem pOk_put {n : Nat} {S : XS} {a v : Int32} (h : pOk n S) : pOk (n + 1) (f_put S a v) := by
  obtain ⟨p, h1, h2⟩ := h
  unfold f_put
  split
  · exact ⟨p + 1, by omega, by show S.1 12 + 1 = _; rw [h2, nI_1]⟩
  · exact ⟨p, by omega, h2⟩
theorem pOk_in1 {S : XS} (h : pOk 38 S) : vp_in (S.1 12 + 1) 40 := by
  obtain ⟨p, h1, h2⟩ := h
  rw [h2, nI_1]
  exact vp_in_nI (by omega) (by decide)
def wOk (w : Int32) : Prop := ∃ sz n, ¬ f_rightW sz n w = 0
theorem w_a {w : Int32} (h : wOk w) (ho : f_op w ∈ ([1, 15, 2, 3, 4, 5, 6, 8, 9, 10, 11, 12, 13, 14] : List Int32)) : vp_in (f_a w) 8 := by
  obtain ⟨sz, n, h⟩ := h
  refine vi_lt (N := 8) (n := 8) (f_a_nn w) (fun q => h ?_) rfl (by decide)
  simp only [List.mem_cons, List.not_mem_nil, or_false] at ho
  unfold f_rightW
  rcases ho with e | e | e | e | e | e | e | e | e | e | e | e | e | e <;> simp (decide := true) only [e, if_true, if_false, eq_true q]
theorem w_b8 {w : Int32} (h : wOk w) (ho : f_op w ∈ ([2, 3, 4, 5] : List Int32)) : vp_in (f_b w) 8 := by
  obtain ⟨sz, n, h⟩ := h
  refine vi_lt (N := 8) (n := 8) (f_b_nn w) (fun q => h ?_) rfl (by decide)
  simp only [List.mem_cons, List.not_mem_nil, or_false] at ho
  unfold f_rightW
  rcases ho with e | e | e | e <;> simp (decide := true) only [e, if_true, if_false, eq_true q, ite_self]
theorem w_b16 {w : Int32} (h : wOk w) (ho : f_op w ∈ ([8, 9] : List Int32)) : vp_in (f_b w) 16 := by
  obtain ⟨sz, n, h⟩ := h
  refine vi_lt (N := 16) (n := 16) (f_b_nn w) (fun q => h ?_) rfl (by decide)
  simp only [List.mem_cons, List.not_mem_nil, or_false] at ho
  unfold f_rightW
  rcases ho with e | e <;> simp (decide := true) only [e, if_true, if_false, eq_true q, ite_self]
theorem w_b4 {w : Int32} (h : wOk w) (ho : f_op w ∈ ([10, 11, 14] : List Int32)) : vp_in (f_b w) 4 := by
  obtain ⟨sz, n, h⟩ := h
  refine vi_lt (N := 4) (n := 4) (f_b_nn w) (fun q => h ?_) rfl (by decide)
  simp only [List.mem_cons, List.not_mem_nil, or_false] at ho
  unfold f_rightW
  rcases ho with e | e | e <;> simp (decide := true) only [e, if_true, if_false, eq_true q, ite_self]
theorem w_b2 {w : Int32} (h : wOk w) (ho : f_op w ∈ ([12, 13] : List Int32)) : vp_in (f_b w) 2 := by
  obtain ⟨sz, n, h⟩ := h
  refine vi_lt (N := 2) (n := 2) (f_b_nn w) (fun q => h ?_) rfl (by decide)
  simp only [List.mem_cons, List.not_mem_nil, or_false] at ho
  unfold f_rightW
  rcases ho with e | e <;> simp (decide := true) only [e, if_true, if_false, eq_true q, ite_self]
theorem w_c {w : Int32} (h : wOk w) (ho : f_op w ∈ ([2, 3, 4, 5, 10, 11] : List Int32)) : vp_in (f_c w) 8 := by
  obtain ⟨sz, n, h⟩ := h
  refine vi_lt (N := 8) (n := 8) (f_c_nn w) (fun q => h ?_) rfl (by decide)
  simp only [List.mem_cons, List.not_mem_nil, or_false] at ho
  unfold f_rightW
  rcases ho with e | e | e | e | e | e <;> simp (decide := true) only [e, if_true, if_false, eq_true q, ite_self]
theorem c_in {b : Int32} (h : vp_in b 16) : vp_in (8 + b) 164 := by
  obtain ⟨a, a1, rfl⟩ := vp_in_of h (by decide)
  rw [show (8 : Int32) = nI 8 from rfl, nI_add]
  exact vp_in_nI (by omega) (by decide)
theorem rw_in {b : Int32} (h : vp_in b 4) (x : Int32) : vp_in (24 + 8 * b + (x &&& 7)) 164 := by
  obtain ⟨a, a1, rfl⟩ := vp_in_of h (by decide)
  obtain ⟨j, j1, j2⟩ := pk_andE x (m := 7) 3 (by decide)
  rw [j2, show (8 : Int32) = nI 8 from rfl, pk_mul, show (24 : Int32) = nI 24 from rfl, nI_add, nI_add]
  exact vp_in_nI (by omega) (by decide)
def runOk (S : XS) : Prop := vp_in (32 * S.2 0 0 + S.1 9) 512 ∧ pOk 38 S ∧ wOk (f_word S) ∧ ∀ b, vp_in b 2 → vp_in (f_see S (56 + 6 * b)) 4
theorem f_see_congr {S T : XS} (h2 : T.2 = S.2) (h1 : T.1 12 = S.1 12) (a : Int32) : f_see T a = f_see S a := by
  unfold f_see f_place
  rw [h2, h1]
theorem f_see_pays {S : XS} {c : Int32} (h : ¬ f_paysR S c = 0) {a : Int32} : f_see (f_pays S c) a = f_see S a := f_see_congr (f_pays_2 h) (f_pays_1 h 12 (by decide) (by decide)) a
def comOk (S : XS) : Prop := ∃ p k, p ≤ 38 ∧ S.1 12 = nI p ∧ S.1 11 = nI k ∧ k ≤ 3 * (p + 2) + 1 ∧ (∀ e, e < p + 2 → vp_in (S.2 2 e) 164) ∧ (3 * (p + 2) < k → vp_in (S.1 15) 16)
theorem comOk_pays {S : XS} {c : Int32} (h : ¬ f_paysR S c = 0) (hc : comOk S) : comOk (f_pays S c) := by
  unfold comOk
  rw [f_pays_2 h, f_pays_1 h 12 (by decide) (by decide), f_pays_1 h 11 (by decide) (by decide), f_pays_1 h 15 (by decide) (by decide)]
  exact hc
theorem com_n {p : Nat} : (nI p + 2 : Int32) = nI (p + 2) := nI_add p 2
theorem com_2n {p : Nat} : 2 * (nI p + 2 : Int32) = nI (2 * (p + 2)) := by rw [com_n]; exact pk_mul 2 (p + 2)
theorem com_3n {p : Nat} : 3 * (nI p + 2 : Int32) = nI (3 * (p + 2)) := by rw [com_n]; exact pk_mul 3 (p + 2)
theorem com_half {T : XS} (hc : comOk T) (c35 : ¬ 2 * (T.1 12 + 2) ≤ T.1 11) : vp_in (T.1 11 / 2) 40 := by
  obtain ⟨p, k, h1, h2, h3, h4, -⟩ := hc
  rw [h2, h3, com_2n, nI_leI (by omega) (by omega)] at c35
  rw [h3, show (2 : Int32) = nI 2 from rfl, pk_div (by omega) (by decide) (by decide)]
  exact vp_in_nI (by omega) (by decide)
theorem com_list {T : XS} (hc : comOk T) (c35 : ¬ 2 * (T.1 12 + 2) ≤ T.1 11) : vp_in (84 + T.1 11) 164 := by
  obtain ⟨p, k, h1, h2, h3, h4, -⟩ := hc
  rw [h2, h3, com_2n, nI_leI (by omega) (by omega)] at c35
  rw [h3, show (84 : Int32) = nI 84 from rfl, nI_add]
  exact vp_in_nI (by omega) (by decide)
theorem com_e0 {T : XS} (hc : comOk T) (c78 : ¬ T.1 11 = 2 * (T.1 12 + 2)) (c94 : ¬ 3 * (T.1 12 + 2) < T.1 11) (c35 : 2 * (T.1 12 + 2) ≤ T.1 11) : ∃ e, e < 40 ∧ T.1 11 - 2 * (T.1 12 + 2) - 1 = nI e ∧ vp_in (T.2 2 e) 164 := by
  obtain ⟨p, k, h1, h2, h3, h4, h5, -⟩ := hc
  rw [h2, h3, com_2n, nI_leI (by omega) (by omega)] at c35
  rw [h2, h3, com_2n, nI_eq (by omega) (by omega)] at c78
  rw [h2, h3, com_3n, nI_ltI (by omega) (by omega)] at c94
  refine ⟨k - 2 * (p + 2) - 1, by omega, ?_, h5 _ (by omega)⟩
  rw [h2, h3, com_2n, pk_sub (by omega), show (1 : Int32) = nI 1 from rfl, pk_sub (by omega)]
theorem com_e {T : XS} (hc : comOk T) (c78 : ¬ T.1 11 = 2 * (T.1 12 + 2)) (c94 : ¬ 3 * (T.1 12 + 2) < T.1 11) (c35 : 2 * (T.1 12 + 2) ≤ T.1 11) : vp_in (T.1 11 - 2 * (T.1 12 + 2) - 1) 40 := by
  obtain ⟨e, h1, h2, -⟩ := com_e0 hc c78 c94 c35
  rw [h2]
  exact vp_in_nI h1 (by decide)
theorem com_w {T : XS} (hc : comOk T) (c78 : ¬ T.1 11 = 2 * (T.1 12 + 2)) (c94 : ¬ 3 * (T.1 12 + 2) < T.1 11) (c35 : 2 * (T.1 12 + 2) ≤ T.1 11) : vp_in (T.2 2 (T.1 11 - 2 * (T.1 12 + 2) - 1).toNatClampNeg) 164 := by
  obtain ⟨e, h1, h2, h3⟩ := com_e0 hc c78 c94 c35
  rw [h2, nI_clamp (by omega)]
  exact h3
theorem com_t {T : XS} (hc : comOk T) (c94 : 3 * (T.1 12 + 2) < T.1 11) : vp_in (T.1 15) 16 := by
  obtain ⟨p, k, h1, h2, h3, h4, h5, h6⟩ := hc
  rw [h2, h3, com_3n, nI_ltI (by omega) (by omega)] at c94
  exact h6 c94
def stepOk (S : XS) : Prop := vp_in (S.2 0 0) 16 ∧ (S.1 18 = 1 → repOk S) ∧ (S.1 18 = 2 → airOk S) ∧ (S.1 18 = 3 → runOk S) ∧ ((S.1 18).toInt < 1 ∨ 3 < (S.1 18).toInt → comOk S)
theorem vi_le {x : Int32} {n : Nat} {N : Int32} (h0 : ¬ x < 0) (h : x ≤ N) (hN : N = nI n) (hn : n + 1 < 2 ^ 31) : vp_in x (n + 1) := by
  obtain ⟨j, h1, h2⟩ := nI_of h0
  rw [h2, hN, nI_leI h1 (by omega)] at h
  rw [h2]
  exact vp_in_nI (by omega) (by omega)
theorem jrem_in0 {x : Int32} {d : Nat} (hx : ¬ x < 0) {D : Int32} (hD : D = nI d) (h0 : 0 < d) (hd : d < 2 ^ 31) : vp_in (jrem x D) d := by
  obtain ⟨a, a1, rfl⟩ := nI_of hx
  rw [hD, jrem_nI a1 h0 hd]
  exact vp_in_nI (Nat.mod_lt _ h0) hd
theorem aired_in {n k : Int32} (ha : vp_in n 1048576) (c6 : ¬ k < 0) (c20 : ¬ n ≤ k) : vp_in (jrem (n - 1 - k) 64) 64 := by
  obtain ⟨a, a1, rfl⟩ := vp_in_of ha (by decide)
  obtain ⟨b, b1, rfl⟩ := nI_of c6
  rw [nI_leI (by omega) b1] at c20
  rw [show (1 : Int32) = nI 1 from rfl, pk_sub (by omega), pk_sub (by omega), show (64 : Int32) = nI 64 from rfl, jrem_nI (by omega) (by decide) (by decide)]
  exact vp_in_nI (Nat.mod_lt _ (by decide)) (by decide)
theorem f_state_out {S : XS} {x : Int32} (h : x.toInt < 0 ∨ 9 < x.toInt) : f_stateR S x = -1 := by
  have k : ∀ v : Int32, 0 ≤ v.toInt → v.toInt ≤ 9 → (x = v) = False := fun v a b => eq_false (fun e => by rw [e] at h; omega)
  unfold f_stateR f_stateR0
  simp only [k 0 (by decide) (by decide), k 1 (by decide) (by decide), k 2 (by decide) (by decide), k 3 (by decide) (by decide), k 4 (by decide) (by decide), k 5 (by decide) (by decide), k 6 (by decide) (by decide), k 7 (by decide) (by decide), k 8 (by decide) (by decide), k 9 (by decide) (by decide), if_false]
theorem vi_ge {x : Int32} {n : Nat} {N : Int32} (h0 : ¬ x < 0) (h : ¬ N ≤ x) (hN : N = nI n) (hn : n < 2 ^ 31) : vp_in x n := by
  obtain ⟨j, h1, h2⟩ := nI_of h0
  rw [h2, hN, nI_leI hn h1] at h
  rw [h2]
  exact vp_in_nI (by omega) hn
theorem mgX12_59 : fG mG RX12 59 0 3 (.inl 14) := ⟨_, _, _, _, "ThriftNodeModel", rfl, rfl, rfl, by decide, in_X12, Or.inl q1100, Or.inl rfl⟩
theorem mgX12_13 : fG mG RX12 13 0 2 (.inr (.inl 2)) := ⟨_, _, _, _, "ThriftNodeModel", rfl, rfl, rfl, by decide, in_X12, Or.inl q1099, Or.inl rfl⟩
theorem ma_size : aG mG 2 13 16 := ⟨rfl, by decide +kernel⟩
theorem mgX12_7 : fG mG RX12 7 0 1 (.inr (.inl 1)) := ⟨_, _, _, _, "ThriftNodeModel", rfl, rfl, rfl, by decide, in_X12, Or.inl q1098, Or.inl rfl⟩
theorem ma_code : aG mG 1 12 512 := ⟨rfl, by decide +kernel⟩
theorem mpX12_59 : fP mG RX12 59 0 3 14 (.inl 14) .boolean := ⟨by decide +kernel, Or.inl rfl, _, _, _, _, "ThriftNodeModel", tyX12, rfl, rfl, rfl, by decide, in_X12, Or.inl q1100, Or.inl rfl, tyX12_ok, nmX12, rfl, rfl⟩
theorem mgX12_120 : fG mG RX12 120 0 16 (.inl 8) := ⟨_, _, _, _, "ThriftNodeModel", rfl, rfl, rfl, by decide, in_X12, Or.inl q1113, Or.inl rfl⟩
theorem mpX12_127 : fP mG RX12 127 0 17 7 (.inl 7) .boolean := ⟨by decide +kernel, Or.inl rfl, _, _, _, _, "ThriftNodeModel", tyX12, rfl, rfl, rfl, by decide, in_X12, Or.inl q1114, Or.inl rfl, tyX12_ok, nmX12, rfl, rfl⟩
theorem mpX12_120 : fP mG RX12 120 0 16 8 (.inl 8) .int := ⟨by decide +kernel, Or.inl rfl, _, _, _, _, "ThriftNodeModel", tyX12, rfl, rfl, rfl, by decide, in_X12, Or.inl q1113, Or.inl rfl, tyX12_ok, nmX12, rfl, rfl⟩
theorem mgX12_127 : fG mG RX12 127 0 17 (.inl 7) := ⟨_, _, _, _, "ThriftNodeModel", rfl, rfl, rfl, by decide, in_X12, Or.inl q1114, Or.inl rfl⟩
theorem mgX12_44 : fG mG RX12 44 0 27 (.inr (.inl 11)) := ⟨_, _, _, _, "ThriftNodeModel", rfl, rfl, rfl, by decide, in_X12, Or.inl q1124, Or.inl rfl⟩
theorem mgX12_130 : fG mG RX12 130 0 26 (.inl 13) := ⟨_, _, _, _, "ThriftNodeModel", rfl, rfl, rfl, by decide, in_X12, Or.inl q1123, Or.inl rfl⟩
theorem ma_airNumber : aG mG 11 8 64 := ⟨rfl, by decide +kernel⟩
theorem mgX12_47 : fG mG RX12 47 0 28 (.inr (.inl 12)) := ⟨_, _, _, _, "ThriftNodeModel", rfl, rfl, rfl, by decide, in_X12, Or.inl q1125, Or.inl rfl⟩
theorem ma_airPayload : aG mG 12 9 64 := ⟨rfl, by decide +kernel⟩
theorem mpX12_130 : fP mG RX12 130 0 26 13 (.inl 13) .int := ⟨by decide +kernel, Or.inl rfl, _, _, _, _, "ThriftNodeModel", tyX12, rfl, rfl, rfl, by decide, in_X12, Or.inl q1123, Or.inl rfl, tyX12_ok, nmX12, rfl, rfl⟩
theorem mgX12_50 : fG mG RX12 50 0 29 (.inr (.inl 13)) := ⟨_, _, _, _, "ThriftNodeModel", rfl, rfl, rfl, by decide, in_X12, Or.inl q1126, Or.inl rfl⟩
theorem ma_farNumber : aG mG 13 11 64 := ⟨rfl, by decide +kernel⟩
theorem mgX12_53 : fG mG RX12 53 0 30 (.inr (.inl 14)) := ⟨_, _, _, _, "ThriftNodeModel", rfl, rfl, rfl, by decide, in_X12, Or.inl q1127, Or.inl rfl⟩
theorem ma_farPayload : aG mG 14 10 64 := ⟨rfl, by decide +kernel⟩
theorem mgX12_102 : fG mG RX12 102 0 19 (.inl 9) := ⟨_, _, _, _, "ThriftNodeModel", rfl, rfl, rfl, by decide, in_X12, Or.inl q1116, Or.inl rfl⟩
theorem mgX12_105 : fG mG RX12 105 0 21 (.inl 10) := ⟨_, _, _, _, "ThriftNodeModel", rfl, rfl, rfl, by decide, in_X12, Or.inl q1118, Or.inl rfl⟩
theorem mgX12_155 : fG mG RX12 155 0 10 (.inl 1) := ⟨_, _, _, _, "ThriftNodeModel", rfl, rfl, rfl, by decide, in_X12, Or.inl q1107, Or.inl rfl⟩
theorem mgX12_158 : fG mG RX12 158 0 14 (.inl 6) := ⟨_, _, _, _, "ThriftNodeModel", rfl, rfl, rfl, by decide, in_X12, Or.inl q1111, Or.inl rfl⟩
theorem mpX12_158 : fP mG RX12 158 0 14 6 (.inl 6) .int := ⟨by decide +kernel, Or.inl rfl, _, _, _, _, "ThriftNodeModel", tyX12, rfl, rfl, rfl, by decide, in_X12, Or.inl q1111, Or.inl rfl, tyX12_ok, nmX12, rfl, rfl⟩
theorem mgX12_22 : fG mG RX12 22 0 6 (.inr (.inl 5)) := ⟨_, _, _, _, "ThriftNodeModel", rfl, rfl, rfl, by decide, in_X12, Or.inl q1103, Or.inl rfl⟩
theorem ma_sensor : aG mG 5 5 4 := ⟨rfl, by decide +kernel⟩
theorem mgX12_108 : fG mG RX12 108 0 25 (.inl 11) := ⟨_, _, _, _, "ThriftNodeModel", rfl, rfl, rfl, by decide, in_X12, Or.inl q1122, Or.inl rfl⟩
theorem mgX12_161 : fG mG RX12 161 0 31 (.inl 15) := ⟨_, _, _, _, "ThriftNodeModel", rfl, rfl, rfl, by decide, in_X12, Or.inl q1128, Or.inl rfl⟩
theorem mpX12_161 : fP mG RX12 161 0 31 15 (.inl 15) .int := ⟨by decide +kernel, Or.inl rfl, _, _, _, _, "ThriftNodeModel", tyX12, rfl, rfl, rfl, by decide, in_X12, Or.inl q1128, Or.inl rfl, tyX12_ok, nmX12, rfl, rfl⟩
theorem mgX12_179 : fG mG RX12 179 0 15 (.inl 3) := ⟨_, _, _, _, "ThriftNodeModel", rfl, rfl, rfl, by decide, in_X12, Or.inl q1112, Or.inl rfl⟩
theorem mpX12_179 : fP mG RX12 179 0 15 3 (.inl 3) .int := ⟨by decide +kernel, Or.inl rfl, _, _, _, _, "ThriftNodeModel", tyX12, rfl, rfl, rfl, by decide, in_X12, Or.inl q1112, Or.inl rfl, tyX12_ok, nmX12, rfl, rfl⟩
theorem mgX12_31 : fG mG RX12 31 0 12 (.inl 4) := ⟨_, _, _, _, "ThriftNodeModel", rfl, rfl, rfl, by decide, in_X12, Or.inl q1109, Or.inl rfl⟩
theorem mpX12_155 : fP mG RX12 155 0 10 1 (.inl 1) .int := ⟨by decide +kernel, Or.inl rfl, _, _, _, _, "ThriftNodeModel", tyX12, rfl, rfl, rfl, by decide, in_X12, Or.inl q1107, Or.inl rfl, tyX12_ok, nmX12, rfl, rfl⟩
theorem kX12_63 : kS RX12 63 yX12_isTask cX12_isTask 1 (some .boolean) 1 := ⟨lw_S q1202 q1203 q67 q1204, by decide +kernel, by decide⟩
theorem kX12_67 : kS RX12 67 yX12_op cX12_op 1 (some .int) 1 := ⟨lw_S q1213 q1214 q67 q1215, by decide +kernel, by decide⟩
theorem kX12_71 : kS RX12 71 yX12_a cX12_a 1 (some .int) 1 := ⟨lw_S q1216 q1217 q67 q1218, by decide +kernel, by decide⟩
theorem kX12_74 : kS RX12 74 yX12_b cX12_b 1 (some .int) 1 := ⟨lw_S q1219 q1220 q67 q1221, by decide +kernel, by decide⟩
theorem kX12_77 : kS RX12 77 yX12_c cX12_c 1 (some .int) 1 := ⟨lw_S q1222 q1223 q67 q1224, by decide +kernel, by decide⟩
theorem kX12_80 : kV RX12 80 RX12 yX12_isRight cX12_isRight 6 (some .boolean) 2 := ⟨lw_V q1209 q1211 qs18 q67 q1212, by decide +kernel, by decide⟩
theorem kX12_123 : kV RX12 123 RX12 yX12_write cX12_write 3 none 2 := ⟨lw_V q1253 q1255 qs25 q67 q1256, by decide +kernel, by decide⟩
theorem kX12_117 : kV RX12 117 RX12 yX12_pays cX12_pays 2 (some .boolean) 1 := ⟨lw_V q1245 q1247 qs23 q67 q1248, by decide +kernel, by decide⟩
theorem kX12_133 : kV RX12 133 RX12 yX12_see cX12_see 3 (some .int) 1 := ⟨lw_V q1268 q1270 qs28 q67 q1271, by decide +kernel, by decide⟩
theorem kX12_136 : kV RX12 136 RX12 yX12_hasRoom cX12_hasRoom 4 (some .boolean) 2 := ⟨lw_V q1276 q1278 qs30 q67 q1279, by decide +kernel, by decide⟩
theorem kX12_139 : kV RX12 139 RX12 yX12_put cX12_put 4 none 2 := ⟨lw_V q1280 q1282 qs31 q67 q1283, by decide +kernel, by decide⟩
theorem kX12_145 : kV RX12 145 RX12 yX12_push cX12_push 6 none 2 := ⟨lw_V q1284 q1286 qs32 q67 q1287, by decide +kernel, by decide⟩
theorem kX12_148 : kV RX12 148 RX12 yX12_pop cX12_pop 6 none 2 := ⟨lw_V q1288 q1290 qs33 q67 q1291, by decide +kernel, by decide⟩
theorem kX12_151 : kV RX12 151 RX12 yX12_sendFrame cX12_sendFrame 3 none 1 := ⟨lw_V q1292 q1294 qs34 q67 q1295, by decide +kernel, by decide⟩
theorem kX12_142 : kS RX12 142 yX12_cost cX12_cost 1 (some .int) 1 := ⟨lw_S q1265 q1266 q67 q1267, by decide +kernel, by decide⟩
theorem kX12_176 : kV RX12 176 RX12 yX12_commitOne cX12_commitOne 4 none 0 := ⟨lw_V q1296 q1298 qs35 q67 q1299, by decide +kernel, by decide⟩
theorem kX12_167 : kV RX12 167 RX12 yX12_replayStep cX12_replayStep 1 none 0 := ⟨lw_V q1241 q1243 qs22 q67 q1244, by decide +kernel, by decide⟩
theorem kX12_170 : kV RX12 170 RX12 yX12_airStep cX12_airStep 3 none 0 := ⟨lw_V q1257 q1259 qs26 q67 q1260, by decide +kernel, by decide⟩
theorem kX12_173 : kV RX12 173 RX12 yX12_runStep cX12_runStep 7 none 0 := ⟨lw_V q1261 q1263 qs27 q67 q1264, by decide +kernel, by decide⟩
theorem kX12_164 : kV RX12 164 RX12 yX12_beginAttempt cX12_beginAttempt 1 none 0 := ⟨lw_V q1233 q1235 qs20 q67 q1236, by decide +kernel, by decide⟩
theorem kX12_182 : kV RX12 182 RX12 yX12_stepOnce cX12_stepOnce 2 (some .boolean) 0 := ⟨lw_V q1229 q1231 qs19 q67 q1232, by decide +kernel, by decide⟩
theorem kX12_186 : kV RX12 186 RX12 yX12_raise cX12_raise 2 (some .int) 1 := ⟨lw_V q1312 q1314 qs36 q67 q1315, by decide +kernel, by decide⟩
