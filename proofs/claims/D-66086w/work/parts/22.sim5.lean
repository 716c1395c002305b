/-! THE PLAIN LAW, fifth part: marked lists; the relation between the two sides -/
set_option maxRecDepth 100000
def adrC (a : Nat) : Prop := a = 0 ∨ a = 1 ∨ adr a
theorem adrC.lt {a : Nat} (h : adrC a) : a < 84 ∧ a ≠ 2 ∧ a ≠ 4 := by
  rcases h with e | e | e | e <;> omega
/-- entries (wh, wt), n of them, over the words w: their places are in order, and what they leave is good -/
def Ent (c : Nat) (sz w wh wt : Nat → Int32) (n : Nat) : Prop := (∀ e, e < n → ∃ a, adrC a ∧ wh e = nI a) ∧ (∀ e e', e < n → e' < n → wh e = wh e' → e = e') ∧ kOK c sz (fun a => fv w wh wt n (nI a))
theorem fv_in {w wh wt : Nat → Int32} {n e : Nat} (hn : n < 1000) (hd : ∀ e e', e < n → e' < n → wh e = wh e' → e = e') (he : e < n) : fv w wh wt n (wh e) = wt e := by
  have c : ¬ f_find wh (wh e) n 0 = -1 := by
    rw [find_none (by omega)]
    exact fun z => z e (by omega) (by omega) rfl
  obtain ⟨k, _, hk, h1, h2⟩ := find_some (by omega) c
  unfold fv
  rw [if_neg c, h1, show ix (nI k) = k from nI_clamp (by omega)]
  rw [hd k e (by omega) he h2]
theorem fv_out {w wh wt : Nat → Int32} {n : Nat} {a : Int32} (hn : n < 1000) (h : ∀ e, e < n → ¬ wh e = a) : fv w wh wt n a = w (ix a) := by
  unfold fv
  rw [if_pos ((find_none (by omega)).mpr (fun e _ he => h e (by omega)))]
theorem fv_cases {w wh wt : Nat → Int32} {n : Nat} (hn : n < 1000) (hd : ∀ e e', e < n → e' < n → wh e = wh e' → e = e') (a : Int32) : (∃ e, e < n ∧ wh e = a ∧ fv w wh wt n a = wt e) ∨ ((∀ e, e < n → ¬ wh e = a) ∧ fv w wh wt n a = w (ix a)) := by
  by_cases c : ∃ e, e < n ∧ wh e = a
  · obtain ⟨e, he, rfl⟩ := c
    exact Or.inl ⟨e, he, rfl, fv_in hn hd he⟩
  · have h : ∀ e, e < n → ¬ wh e = a := fun e he z => c ⟨e, he, z⟩
    exact Or.inr ⟨h, fv_out hn h⟩
theorem fv_congr {w w' wh wh' wt wt' : Nat → Int32} {n : Nat} (hn : n < 1000) (h1 : ∀ e, e < n → wh' e = wh e) (h2 : ∀ e, e < n → wt' e = wt e) {a : Int32} (hw : (∀ e, e < n → ¬ wh e = a) → w' (ix a) = w (ix a)) : fv w' wh' wt' n a = fv w wh wt n a := by
  unfold fv
  have hf : f_find wh' a n 0 = f_find wh a n 0 := find_congr (fun e _ he => h1 e (by omega))
  rw [hf]
  by_cases c : f_find wh a n 0 = -1
  · rw [if_pos c, if_pos c]
    exact hw (fun e he => (find_none (by omega)).mp c e (by omega) (by omega))
  · rw [if_neg c, if_neg c]
    obtain ⟨k, _, hk, h3, _⟩ := find_some (by omega) c
    rw [h3, show ix (nI k) = k from nI_clamp (by omega)]
    exact h2 k (by omega)
/-- entries stay good if the words change outside what counts, or where an entry lies -/
theorem Ent.congr {c : Nat} {sz w w' wh wh' wt wt' : Nat → Int32} {n : Nat} (h : Ent c sz w wh wt n) (hn : n < 1000) (h1 : ∀ e, e < n → wh' e = wh e) (h2 : ∀ e, e < n → wt' e = wt e) (hw : ∀ a, a < 84 → a ≠ 2 → (∀ e, e < n → ¬ wh e = nI a) → w' a = w a) : Ent c sz w' wh' wt' n := by
  obtain ⟨g1, g2, g3⟩ := h
  refine ⟨fun e he => by rw [h1 e he]; exact g1 e he, fun e e' he he' z => g2 e e' he he' (by rw [← h1 e he, ← h1 e' he']; exact z), ?_⟩
  have hv : ∀ a, a < 84 → a ≠ 2 → fv w' wh' wt' n (nI a) = fv w wh wt n (nI a) := fun a ha ha2 => fv_congr hn h1 h2 (fun z => by rw [show ix (nI a) = a from nI_clamp (by omega)]; exact hw a ha ha2 z)
  exact g3.congr (hv 0 (by omega) (by omega)) (hv 3 (by omega) (by omega)) (hv 4 (by omega) (by omega)) (fun b hb => ⟨hv _ (by omega) (by omega), hv _ (by omega) (by omega)⟩)
theorem Ent.mono {c c' : Nat} {sz w wh wt : Nat → Int32} {n : Nat} (h : Ent c sz w wh wt n) (hc : c ≤ c') : Ent c' sz w wh wt n := ⟨h.1, h.2.1, h.2.2.mono hc⟩
/-- all entries are applied: the words are good -/
theorem Ent.done {c : Nat} {sz w wh wt : Nat → Int32} {n : Nat} (h : Ent c sz w wh wt n) (hn : n < 1000) (ha : ∀ e, e < n → w (ix (wh e)) = wt e) : kOK c sz w := by
  have hv : ∀ a, a < 1000 → w a = fv w wh wt n (nI a) := by
    intro a hlt
    rcases fv_cases (w := w) (wt := wt) hn h.2.1 (nI a) with ⟨e, he, e1, e2⟩ | ⟨_, e2⟩
    · rw [e2, ← ha e he, e1, show ix (nI a) = a from nI_clamp (by omega)]
    · rw [e2, show ix (nI a) = a from nI_clamp (by omega)]
  exact h.2.2.congr (hv 0 (by omega)) (hv 3 (by omega)) (hv 4 (by omega)) (fun b hb => ⟨hv _ (by omega), hv _ (by omega)⟩)
abbrev lw_ (kp : Nat → Int32) : Nat → Int32 := fun e => kp (84 + 2 * e)
abbrev lv_ (kp : Nat → Int32) : Nat → Int32 := fun e => kp (84 + 2 * e + 1)
def MarkOK (c : Nat) (sz kp : Nat → Int32) (n : Nat) : Prop := 2 ≤ n ∧ n ≤ 40 ∧ kp 2 = nI n ∧ Ent c sz kp (lw_ kp) (lv_ kp) n
def Appl (kp : Nat → Int32) (i : Nat) : Prop := ∀ e, e < i → kp (ix (lw_ kp e)) = lv_ kp e
theorem Mark.write {c : Nat} {sz kp : Nat → Int32} {n i : Nat} (h : MarkOK c sz kp n) (ha : Appl kp i) (hi : i < n) : MarkOK c sz (upd kp (ix (lw_ kp i)) (lv_ kp i)) n ∧ Appl (upd kp (ix (lw_ kp i)) (lv_ kp i)) (i + 1) := by
  obtain ⟨h1, h2, h3, h4⟩ := h
  obtain ⟨a, a1, a2⟩ := h4.1 i hi
  have al := a1.lt
  have ea : ix (lw_ kp i) = a := by rw [a2]; exact nI_clamp (by omega)
  rw [ea]
  have hu : ∀ k, 84 ≤ k → upd kp a (lv_ kp i) k = kp k := fun k hk => pk_un (by omega)
  have hlw : ∀ e, lw_ (upd kp a (lv_ kp i)) e = lw_ kp e := fun e => hu _ (by omega)
  have hlv : ∀ e, lv_ (upd kp a (lv_ kp i)) e = lv_ kp e := fun e => hu _ (by omega)
  refine ⟨⟨h1, h2, (pk_un (by omega)).trans h3, h4.congr (by omega) (fun e _ => hlw e) (fun e _ => hlv e) (fun k hk hk2 hne => pk_un (fun z => hne i hi (by rw [a2, z])))⟩, fun e he => ?_⟩
  rw [hlw, hlv]
  by_cases c1 : e = i
  · rw [c1, ea, pk_us]
  · obtain ⟨b, b1, b2⟩ := h4.1 e (by omega)
    have bl := b1.lt
    have eb : ix (lw_ kp e) = b := by rw [b2]; exact nI_clamp (by omega)
    have hba : b ≠ a := fun z => c1 (h4.2.1 e i (by omega) hi (by rw [b2, a2, z]))
    rw [eb, pk_un hba, ← eb]
    exact ha e (by omega)
theorem Ent.task {c : Nat} {sz w wh wt : Nat → Int32} {n e : Nat} (h : Ent c sz w wh wt n) (hn : n < 1000) (he : e < n) (h0 : vp_in (w 0) 16) : vp_in (upd w (ix (wh e)) (wt e) 0) 16 := by
  obtain ⟨a, a1, a2⟩ := h.1 e he
  have ea : ix (wh e) = a := by rw [a2]; exact nI_clamp (by have := a1.lt; omega)
  rw [ea]
  by_cases c0 : a = 0
  · obtain ⟨t, t1, t2, _⟩ := h.2.2.1
    have e1 : fv w wh wt n (nI 0) = wt e := by
      rw [show nI 0 = wh e by rw [a2, c0]]
      exact fv_in hn h.2.1 he
    rw [c0, pk_us, ← e1]
    show vp_in (fv w wh wt n (nI 0)) 16
    rw [show fv w wh wt n (nI 0) = nI t from t2]
    exact vp_in_nI t1 (by decide)
  · rw [pk_un (fun z => c0 z.symm)]; exact h0
/-- the far side's numbers, hd of them heard -/
def far (hd j : Nat) : Int32 := if j < hd then nI (hd - 1 - (hd - 1 - j) % 64) else -1
def allR (S : XS) : Prop := ∀ t i, t < 16 → i < ix (S.2 13 t) → ¬ f_right S (nI t) (nI i) = 0
def Base (c : Nat) (T S : XS) : Prop :=
  (∀ j, j ≠ 11 → T.2 j = S.2 j) ∧ (∀ i, i ≤ 8 ∨ i = 13 ∨ i = 14 → T.1 i = S.1 i) ∧ vp_in (T.1 15) 16 ∧ szOk S ∧
  (∃ hd s, S.2 0 4 = nI s ∧ (hd = s ∨ hd = s + 1) ∧ T.1 16 = nI hd ∧ (∀ j, j < 64 → S.2 11 j = far hd j) ∧ s ≤ c ∧ (S.1 7 = 0 ∨ S.1 7 = 1 ∧ hd = s + 1)) ∧
  (∀ t, t < 16 → ∃ x, S.2 6 t = nI x ∧ x ≤ 2000 + 10 * c) ∧ (∃ x, S.1 2 = nI x ∧ x ≤ 10 * c) ∧ (∃ x, S.1 13 = nI x ∧ x ≤ c) ∧ vp_in (S.2 0 0) 16
def Idle (S : XS) : Prop := (∀ k, k < 8 → S.2 4 k = 0) ∧ S.1 2 = 0
def pOff (c : Nat) (T S : XS) : Prop := S.1 18 = 0 ∧ T.1 17 = 0 ∧ Idle S ∧ ((S.2 0 2 = 0 ∧ kOK c (S.2 13) (S.2 0)) ∨ ∃ n, MarkOK c (S.2 13) (S.2 0) n)
def pRep (c : Nat) (T S : XS) : Prop := S.1 18 = 1 ∧ T.1 17 = 6 ∧ Idle S ∧ S.1 7 = 0 ∧ ∃ n i, MarkOK c (S.2 13) (S.2 0) n ∧ i ≤ n ∧ S.1 8 = nI i ∧ Appl (S.2 0) i
def pAir (c : Nat) (T S : XS) : Prop := S.1 18 = 2 ∧ T.1 17 = 7 ∧ Idle S ∧ S.2 0 2 = 0 ∧ kOK c (S.2 13) (S.2 0) ∧ (S.1 7 = 1 → ¬ S.2 0 4 = S.2 0 3)
def pRun (c : Nat) (T S : XS) : Prop := S.1 18 = 3 ∧ T.1 17 = 8 ∧ T.1 9 = S.1 9 ∧ T.1 10 = S.1 10 ∧ T.1 12 = S.1 12 ∧ T.1 15 = S.2 0 0 ∧ S.1 7 = 0 ∧ S.2 0 2 = 0 ∧ kOK c (S.2 13) (S.2 0) ∧ PV c (S.2 13) S ∧ ∃ t i, t < 16 ∧ S.2 0 0 = nI t ∧ S.1 9 = nI i ∧ i < ix (S.2 13 t)
def pCom (c : Nat) (T S : XS) : Prop := S.1 18 = 4 ∧ T.1 17 = 9 ∧ S.1 7 = 0 ∧ ∃ p k, p ≤ 38 ∧ S.1 12 = nI p ∧ T.1 12 = nI (p + 2) ∧ S.1 11 = nI k ∧ T.1 11 = nI k ∧ k ≤ 3 * (p + 2) + 1 ∧
  Ent c (S.2 13) (S.2 0) (S.2 2) (S.2 3) (p + 2) ∧ (∀ j, j < k → j < 2 * (p + 2) → S.2 0 (84 + j) = if j % 2 = 0 then S.2 2 (j / 2) else S.2 3 (j / 2)) ∧
  (k ≤ 2 * (p + 2) → S.2 0 2 = 0 ∧ kOK c (S.2 13) (S.2 0) ∧ T.1 15 = S.2 0 0) ∧
  (2 * (p + 2) < k → S.2 0 2 = nI (p + 2) ∧ (∀ e, e < k - 2 * (p + 2) - 1 → S.2 0 (ix (S.2 2 e)) = S.2 3 e) ∧ (k = 2 * (p + 2) + 1 → T.1 15 = S.2 0 0) ∧ (2 * (p + 2) + 1 < k → T.1 15 = S.1 15))
def Phase (c : Nat) (T S : XS) : Prop := pOff c T S ∨ pRep c T S ∨ pAir c T S ∨ pRun c T S ∨ pCom c T S
/-- the two sides, sealed -/
def Sim (c : Nat) (T S : XS) : Prop := Base c T S ∧ allR S ∧ Phase c T S
/-- clearing the registers -/
theorem clr_at : ∀ (n k : Nat) (S : XS), (f_clr S n k).1 = S.1 ∧ (∀ j, j ≠ 4 → (f_clr S n k).2 j = S.2 j) ∧ (∀ i, k ≤ i → i < k + n → (f_clr S n k).2 4 i = 0) ∧ ∀ i, i < k ∨ k + n ≤ i → (f_clr S n k).2 4 i = S.2 4 i
  | 0, k, S => ⟨rfl, fun _ _ => rfl, fun i h1 h2 => absurd h2 (by omega), fun _ _ => rfl⟩
  | n + 1, k, S => by
    obtain ⟨h1, h2, h3, h4⟩ := clr_at n (k + 1) (xa S 4 k 0)
    refine ⟨h1, fun j hj => (h2 j hj).trans (a2n _ _ _ hj), fun i hi1 hi2 => ?_, fun i hi => ?_⟩
    · by_cases c : i = k
      · show (f_clr (xa S 4 k 0) n (k + 1)).2 4 i = 0
        rw [h4 i (by omega), a2s, c, pk_us]
      · exact h3 i (by omega) (by omega)
    · show (f_clr (xa S 4 k 0) n (k + 1)).2 4 i = _
      rw [h4 i (by omega), a2s, pk_un (by omega)]
theorem clr_eq {T S : XS} (h : T.2 4 = S.2 4) : (f_clr T 8 0).2 4 = (f_clr S 8 0).2 4 := by
  funext i
  obtain ⟨_, _, a3, a4⟩ := clr_at 8 0 T
  obtain ⟨_, _, b3, b4⟩ := clr_at 8 0 S
  by_cases c : i < 8
  · rw [a3 i (by omega) (by omega), b3 i (by omega) (by omega)]
  · rw [a4 i (by omega), b4 i (by omega), h]
