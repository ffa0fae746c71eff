/-! best first as a pure run over states, and the model's method searches -/
set_option maxRecDepth 100000
/-- the least state that is not taken -/
def bstK (P : nS) : Nat → Option Nat
  | 0 => none
  | k + 1 => match bstK P k with
    | none => if P 41 k = 0 then some k else none
    | some b => if P 41 k = 0 ∧ ltQ P k b = true then some k else some b
def movR (t : Nat → Nat) (g j : Nat) : Nat → Nat := fun k => if k = j then 0 else if k = g then t j else t k
/-- what a move from state i finds -/
def stpP (N : nS) (e i d : Nat) (P : nS) : nS := match nb N (pK (P (1000 + i)) 0 (N 7 0)) d with
  | none => P
  | some j => findP N e (movR (P (1000 + i)) (pK (P (1000 + i)) 0 (N 7 0)) j) (P 35 i + N 11 (P (1000 + i) j)) i d P
def expP (N : nS) (e i : Nat) : Nat → nS → nS
  | 0, P => P
  | d + 1, P => stpP N e i d (expP N e i d P)
/-- the run: 0 nothing is left, 1 the limit is reached, 2 + i a goal is state i -/
def aRun (N : nS) (e : Nat) : Nat → nS → Nat → Nat × nS × Nat
  | 0, P, tk => match bstK P (P 42 0) with
    | none => (0, P, tk)
    | some _ => (1, P, tk)
  | f + 1, P, tk => match bstK P (P 42 0) with
    | none => (0, P, tk)
    | some i => if goalK (fN N) (N 10) (P (1000 + i)) (N 7 0) = true then (2 + i, qu P 41 i 1, tk + 1) else aRun N e f (expP N e i 4 (qu P 41 i 1)) (tk + 1)
def wayP (P : nS) : Nat → Nat → List Nat
  | 0, _ => []
  | f + 1, i => if P 37 i = NO then [] else wayP P f (P 37 i) ++ [P 38 i]
/-- the states found so far are what they are said to be -/
def PI (N : nS) (e : Nat) (P : nS) : Prop := ∀ i, i < P 42 0 → PermN (N 7 0) (P (1000 + i)) ∧ P 40 i = rkN (N 7 0) (P (1000 + i)) ∧ P 36 i = hE N (P (1000 + i)) e ∧ P 35 i ≤ 9 * i ∧ P 41 i ≤ 1 ∧ (P 37 i = NO ∨ (P 37 i < P 42 0 ∧ P 38 i < 4 ∧ P 35 (P 37 i) < P 35 i))
theorem costQ_w {P : nS} {i c fr dr : Nat} {k : Nat} (hk : k ≠ 35 ∧ k ≠ 37 ∧ k ≠ 38) : costQ P i c fr dr k = P k := by
  unfold costQ
  split
  · rw [qu_ne _ hk.2.2, qu_ne _ hk.2.1, qu_ne _ hk.1]
  · rfl
theorem PI.cost {N : nS} {e : Nat} {P : nS} (h : PI N e P) {i c fr dr : Nat} (hi : i < P 42 0) (hf : fr = NO ∨ (fr < P 42 0 ∧ dr < 4 ∧ P 35 fr < c)) : PI N e (costQ P i c fr dr) := by
  intro j hj
  have e42 := congrFun (costQ_w (P := P) (i := i) (c := c) (fr := fr) (dr := dr) (k := 42) (by decide)) 0
  rw [e42] at hj ⊢
  obtain ⟨a1, a2, a3, a4, a5, a6⟩ := h j hj
  rw [costQ_w (k := 1000 + j) (by omega), costQ_w (k := 40) (by decide), costQ_w (k := 36) (by decide), costQ_w (k := 41) (by decide)]
  refine ⟨a1, a2, a3, ?_, a5, ?_⟩
  · unfold costQ
    split
    · by_cases ci : j = i
      · subst ci; simp [qu]; omega
      · simp [qu, ci]; exact a4
    · exact a4
  · have h35 : ∀ x, costQ P i c fr dr 35 x ≤ P 35 x := fun x => by
      unfold costQ
      split
      · by_cases cx : x = i
        · subst cx; simp [qu]; omega
        · simp [qu, cx]
      · exact Nat.le_refl _
    by_cases cl : c < P 35 i
    · by_cases ci : j = i
      · subst ci
        have e37 : costQ P j c fr dr 37 j = fr := by unfold costQ; rw [if_pos cl]; simp [qu]
        have e38 : costQ P j c fr dr 38 j = dr := by unfold costQ; rw [if_pos cl]; simp [qu]
        have e35 : costQ P j c fr dr 35 j = c := by unfold costQ; rw [if_pos cl]; simp [qu]
        rw [e37, e38, e35]
        rcases hf with hf | hf
        · exact .inl hf
        · exact .inr ⟨hf.1, hf.2.1, Nat.lt_of_le_of_lt (h35 fr) hf.2.2⟩
      · have e37 : costQ P i c fr dr 37 j = P 37 j := by unfold costQ; rw [if_pos cl]; simp [qu, ci]
        have e38 : costQ P i c fr dr 38 j = P 38 j := by unfold costQ; rw [if_pos cl]; simp [qu, ci]
        have e35 : costQ P i c fr dr 35 j = P 35 j := by unfold costQ; rw [if_pos cl]; simp [qu, ci]
        rw [e37, e38, e35]
        rcases a6 with a6 | a6
        · exact .inl a6
        · exact .inr ⟨a6.1, a6.2.1, Nat.lt_of_le_of_lt (h35 _) a6.2.2⟩
    · have : costQ P i c fr dr = P := by unfold costQ; rw [if_neg cl]
      rw [this]
      exact a6
theorem PI.add {N : nS} {e : Nat} {P : nS} (h : PI N e P) {t : Nat → Nat} {c fr dr : Nat} (hP : PermN (N 7 0) t) (hc : c ≤ 9 * P 42 0) (hf : fr = NO ∨ (fr < P 42 0 ∧ dr < 4 ∧ P 35 fr < c)) : PI N e (addP N e t c fr dr P) := by
  intro j hj
  obtain ⟨b1, b2, b3, b4, b5, b6, b7, b8⟩ := addP_n (N := N) (e := e) (t := t) (c := c) (fr := fr) (dr := dr) (P := P)
  rw [b1] at hj ⊢
  by_cases cj : j = P 42 0
  · subst cj
    rw [b2, b3, b4, b5, b6, b7, b8]
    refine ⟨hP, rfl, rfl, hc, Nat.zero_le _, ?_⟩
    rcases hf with hf | hf
    · exact .inl hf
    · refine .inr ⟨by omega, hf.2.1, ?_⟩
      rw [addP_o (by decide) (by decide) hf.1]
      exact hf.2.2
  · have hj : j < P 42 0 := by omega
    obtain ⟨a1, a2, a3, a4, a5, a6⟩ := h j hj
    rw [addP_r hj, addP_o (by decide) (by decide) hj, addP_o (by decide) (by decide) hj, addP_o (by decide) (by decide) hj, addP_o (by decide) (by decide) hj, addP_o (by decide) (by decide) hj, addP_o (by decide) (by decide) hj]
    refine ⟨a1, a2, a3, a4, a5, ?_⟩
    rcases a6 with a6 | a6
    · exact .inl a6
    · refine .inr ⟨by omega, a6.2.1, ?_⟩
      rw [addP_o (by decide) (by decide) a6.1]
      exact a6.2.2
theorem PI.find {N : nS} {e : Nat} {P : nS} (h : PI N e P) {t : Nat → Nat} {c fr dr : Nat} (hP : PermN (N 7 0) t) (hc9 : c < 1000000000) (hc : c ≤ 9 * P 42 0) (hf : fr = NO ∨ (fr < P 42 0 ∧ dr < 4 ∧ P 35 fr < c)) : PI N e (findP N e t c fr dr P) ∧ P 42 0 ≤ findP N e t c fr dr P 42 0 ∧ findP N e t c fr dr P 42 0 ≤ P 42 0 + 1 := by
  cases hk : fiK (P 40) (rkN (N 7 0) t) (P 42 0) with
  | some i =>
    rw [(findP_s hk).1]
    refine ⟨h.cost (fiK_lt hk).1 hf, ?_⟩
    rw [costQ_42]
    omega
  | none =>
    rw [(findP_n hc9 hk).1]
    refine ⟨h.add hP hc hf, ?_⟩
    rw [addP_n.1]
    omega
theorem nbC_ne {R C c d j : Nat} (hC : 2 ≤ C) (h : nbC R C c d = some j) : j ≠ c := by
  have h1 := Nat.div_add_mod c C
  have h2 := Nat.mod_lt c (show 0 < C by omega)
  unfold nbC at h
  split at h
  · split at h
    · cases h
    · rename_i h3
      cases h
      have : C ≤ c := by
        have := (Nat.div_pos_iff (a := c) (b := C)).mp (Nat.pos_of_ne_zero h3)
        omega
      omega
  · split at h
    · cases h
    · rename_i h3
      cases h
      intro e
      have h0 : c = 0 := by omega
      subst h0
      exact h3 (Nat.zero_mod C)
  · split at h
    · cases h
    · cases h; omega
  · split at h
    · cases h
    · cases h; omega
theorem GGeo.nbc {N : nS} (h : GGeo N) {k d j : Nat} (hk : k < N 7 0) (hb : nb N k d = some j) : nbC (N 5 0) (N 6 0) (N 0 k) d = some (N 0 j) ∧ N 4 (N 0 j) = 0 ∧ j < N 7 0 := by
  have hj := h.nbl hk hb
  unfold nb at hb
  have h1 := (h.co hk).1
  have h6 : 0 < N 6 0 := by have := h.2.2.1; omega
  cases e : nbC (N 5 0) (N 6 0) (N 0 k) d with
  | none => rw [e] at hb; cases hb
  | some c =>
    rw [e] at hb
    simp only [] at hb
    split at hb
    · rename_i h0
      cases hb
      have := h.oo (nbC_lt h6 h1 e) h0
      rw [this.2]
      exact ⟨rfl, h0, hj⟩
    · cases hb
theorem GGeo.ne {N : nS} (h : GGeo N) {k d j : Nat} (hk : k < N 7 0) (hb : nb N k d = some j) : j ≠ k := by
  intro e
  subst e
  exact nbC_ne h.2.2.1 (h.nbc hk hb).1 rfl
theorem PermN.mov {n : Nat} {t : Nat → Nat} (h : PermN n t) {g j : Nat} (hg : g < n) (hj : j < n) (h0 : t g = 0) (hne : j ≠ g) : PermN n (movR t g j) := by
  have key : ∀ a, a < n → (movR t g j a = if a = j then t g else if a = g then t j else t a) := fun a _ => by
    unfold movR
    rw [h0]
  refine ⟨fun a ha => ?_, fun a b ha hb e => ?_⟩
  · rw [key a ha]
    split
    · exact h.1 g hg
    · split
      · exact h.1 j hj
      · exact h.1 a ha
  · rw [key a ha, key b hb] at e
    by_cases c1 : a = j
    · by_cases c2 : b = j
      · rw [c1, c2]
      · rw [if_pos c1, if_neg c2] at e
        by_cases c3 : b = g
        · rw [if_pos c3] at e
          exact absurd (h.2 g j hg hj e).symm hne
        · rw [if_neg c3] at e
          exact absurd (h.2 g b hg hb e).symm c3
    · rw [if_neg c1] at e
      by_cases c2 : b = j
      · rw [if_pos c2] at e
        by_cases c3 : a = g
        · rw [if_pos c3] at e
          exact absurd (h.2 j g hj hg e) hne
        · rw [if_neg c3] at e
          exact absurd (h.2 a g ha hg e) c3
      · rw [if_neg c2] at e
        by_cases c3 : a = g
        · by_cases c4 : b = g
          · rw [c3, c4]
          · rw [if_pos c3, if_neg c4] at e
            exact absurd (h.2 j b hj hb e).symm c2
        · rw [if_neg c3] at e
          by_cases c4 : b = g
          · rw [if_pos c4] at e
            exact absurd (h.2 a j ha hj e) c1
          · rw [if_neg c4] at e
            exact h.2 a b ha hb e
theorem no_inj {n : Nat} {f : Nat → Nat} (hf : ∀ i, i < n + 1 → f i < n) (hi : ∀ i j, i < n + 1 → j < n + 1 → f i = f j → i = j) : False := by
  obtain ⟨j, hj, e⟩ := (show PermN (n + 1) f from ⟨fun i h => by have := hf i h; omega, hi⟩).surj n (Nat.lt_succ_self n)
  have := hf j hj
  omega
/-- distances are less than the number of cells -/
theorem IsDist.lt {N : nS} {i : Nat} {D : Nat → Nat} (h : IsDist N i D) (hi : i < N 7 0) : ∀ j, j < N 7 0 → D j < N 7 0 := by
  intro j hj
  refine Classical.byContradiction fun hc => ?_
  have hall : ∀ a, a ≤ D j → ∃ k, k < N 7 0 ∧ D k = D j - a := by
    intro a
    induction a with
    | zero => intro _; exact ⟨j, hj, rfl⟩
    | succ a ih =>
      intro ha
      obtain ⟨k, hk, e⟩ := ih (by omega)
      have hki : k ≠ i := fun z => by rw [z, h.1] at e; omega
      obtain ⟨k', d, hk', _, _, e'⟩ := h.2.2 k hk hki
      exact ⟨k', hk', by omega⟩
  have hex : ∀ a, a < N 7 0 + 1 → ∃ k, k < N 7 0 ∧ D k = a := fun a ha => by
    obtain ⟨k, hk, e⟩ := hall (D j - a) (by omega)
    exact ⟨k, hk, by omega⟩
  have hch : ∃ f : Nat → Nat, ∀ a, a < N 7 0 + 1 → f a < N 7 0 ∧ D (f a) = a := by
    refine ⟨fun a => if ha : a < N 7 0 + 1 then Classical.choose (hex a ha) else 0, fun a ha => ?_⟩
    simp only [dif_pos ha]
    exact Classical.choose_spec (hex a ha)
  obtain ⟨f, hf⟩ := hch
  exact no_inj (fun a ha => (hf a ha).1) fun a b ha hb e => by
    rw [← (hf a ha).2, ← (hf b hb).2, e]
theorem sumK_le {e : Nat → Nat} {M : Nat} : ∀ k, (∀ i, i < k → e i ≤ M) → sumK e k ≤ k * M := by
  intro k
  induction k with
  | zero => intro _; exact Nat.le_of_eq (by simp [sumK])
  | succ k ih =>
    intro h
    have h1 := ih fun i hi => h i (by omega)
    have h2 := h k (by omega)
    rw [sumK_s, Nat.add_mul]
    omega
theorem okI_all (G : Nat → Nat) {out k : Nat} (h : out.testBit k = true) : ∀ i, okI G out k i = true := by
  intro i
  induction i with
  | zero => rfl
  | succ i ih => rw [okI_s, ih, h]; rfl
theorem okK_all (G : Nat → Nat) {out m : Nat} : ∀ k, k ≤ m → (∀ i, i < m → out.testBit i = true) → okK G out k = true := by
  intro k
  induction k with
  | zero => intro _ _; rfl
  | succ k ih => intro hk h; rw [okK_s, ih (by omega) h, okI_all G (h k hk)]; rfl
theorem bsK_le2 {g : Nat} {G W : Nat → Nat} {m o : Nat} (ho : okK G o m = true) : ∀ x, o < x → bsK g G W m x ≤ smK W o m := by
  intro x
  induction x with
  | zero => intro h; omega
  | succ x ih =>
    intro h
    rw [bsK_s]
    by_cases c : o = x
    · subst c
      split
      · exact Nat.le_refl _
      · rename_i hc
        have : ¬ smK W o m < bsK g G W m o := fun z => hc ⟨ho, z⟩
        omega
    · have := ih (by omega)
      split
      · rename_i hc; omega
      · exact this
theorem adW_le {N : nS} {t : Nat → Nat} {br : Bool} {line : Nat} (hG : GGeo N) (hA : GAim N) (hP : ∀ j, j < N 7 0 → t j < N 7 0) (hl : line < lineN br N) : adW N t br line ≤ 36 := by
  have hM4 := lineM_le (br := br) hG
  unfold adW
  split
  · rename_i hok
    have hw := (lnOK_iff N br line _).mp hok
    have hlen := lnK_len N t br line (lineM br N)
    have hb := lG_b (lnK_b hG hA hl (fun c hc h0 => hP _ (hG.oo hc h0).1) _ (Nat.le_refl _) hw)
    have h0 := Nat.two_pow_pos (lnK N t br line (lineM br N)).length
    have h1 := bsK_le2 (g := 1000000000) (G := lG (lnK N t br line (lineM br N))) (W := lW (lnK N t br line (lineM br N))) (m := (lnK N t br line (lineM br N)).length) (o := 2 ^ (lnK N t br line (lineM br N)).length - 1) (okK_all _ _ (Nat.le_refl _) fun i hi => by rw [Nat.testBit_two_pow_sub_one]; exact decide_eq_true hi) (2 ^ (lnK N t br line (lineM br N)).length) (by omega)
    have h2 := smK_le (W := lW (lnK N t br line (lineM br N))) (out := 2 ^ (lnK N t br line (lineM br N)).length - 1) (M := 9) (lnK N t br line (lineM br N)).length fun i _ => (hb i).2
    unfold adV
    omega
  · exact Nat.zero_le _
theorem hE_lt {N : nS} {t : Nat → Nat} (hG : GGeo N) (hA : GAim N) (hQ : GPart N) (hP : PermN (N 7 0) t) (e : Nat) : hE N t e < 200000 := by
  have hn := hG.n16
  have h1 : dispN N t ≤ 16 * 9 := by
    refine Nat.le_trans (sumK_le (M := 9) _ fun i hi => ?_) (Nat.mul_le_mul_right 9 hn)
    unfold dispE
    have := (hA.2.1 _ (hP.1 i hi)).2
    split <;> omega
  have h2 : wayN N t ≤ 16 * 144 := by
    refine Nat.le_trans (sumK_le (M := 144) _ fun i hi => ?_) (Nat.mul_le_mul_right 144 hn)
    unfold wayE
    have ha := (hA.2.1 _ (hP.1 i hi)).2
    have hb := (hG.ds hi).lt hi _ (hA.1.1 _ (hP.1 i hi))
    simp only [] at hb ⊢
    have hc := Nat.mul_le_mul ha (show N 3 (16 * i + N 10 (t i)) ≤ 16 by omega)
    split <;> omega
  have h3 : prV N t ≤ 4 * 36 + 4 * 36 := by
    have ha := sumK_le (e := adW N t true) (M := 36) (N 5 0) fun i hi => adW_le (br := true) hG hA hP.1 hi
    have hb := sumK_le (e := adW N t false) (M := 36) (N 6 0) fun i hi => adW_le (br := false) hG hA hP.1 hi
    have hc := Nat.mul_le_mul_right 36 hG.2.1
    have hd := Nat.mul_le_mul_right 36 hG.2.2.2.1
    unfold prV
    omega
  have h4 : parN N t ≤ 2 * 60000 := by
    refine Nat.le_trans (sumK_le (M := 60000) _ fun p hp => ?_) (Nat.mul_le_mul_right 60000 hQ.1)
    obtain ⟨h9, h3, ht, htb⟩ := hQ.2 p hp
    have hix := idx_lt hP hQ hp (N 29 p) (Nat.le_refl _)
    have h99 := pow9 h3
    have hg := (hP.p (x := 0) (by have := hG.2.2.2.2.1; omega)).1
    have hv := htb (9 * idxK N t p (N 29 p) + pK t 0 (N 7 0)) (by omega)
    rw [← Nat.add_assoc] at hv
    unfold parE
    split <;> omega
  have hz : hE N t e = 0 ∨ hE N t e = dispN N t ∨ hE N t e = wayN N t ∨ hE N t e = wayN N t + 2 * prV N t ∨ hE N t e = parN N t := by
    match e with
    | 0 => exact .inl rfl
    | 1 => exact .inr (.inl rfl)
    | 2 => exact .inr (.inr (.inl rfl))
    | 3 => exact .inr (.inr (.inr (.inl rfl)))
    | e + 4 => exact .inr (.inr (.inr (.inr rfl)))
  omega
