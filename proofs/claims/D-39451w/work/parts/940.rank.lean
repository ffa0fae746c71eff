/-! ranks: pure -/
set_option maxRecDepth 100000
def cnt (v : Nat → Nat) (x : Nat) : Nat → Nat
  | 0 => 0
  | k + 1 => cnt v x k + if v k < x then 1 else 0
def eqc (v : Nat → Nat) (x : Nat) : Nat → Nat
  | 0 => 0
  | k + 1 => eqc v x k + if v k = x then 1 else 0
theorem cnt_s (v : Nat → Nat) (x k : Nat) : cnt v x (k + 1) = cnt v x k + if v k < x then 1 else 0 := rfl
theorem eqc_s (v : Nat → Nat) (x k : Nat) : eqc v x (k + 1) = eqc v x k + if v k = x then 1 else 0 := rfl
theorem cnt_x (v : Nat → Nat) (x : Nat) : ∀ k, cnt v (x + 1) k = cnt v x k + eqc v x k := by
  intro k
  induction k with
  | zero => rfl
  | succ k ih =>
    rw [cnt_s, cnt_s, eqc_s, ih]
    by_cases c : v k < x
    · rw [if_pos c, if_pos (by omega), if_neg (by omega)]; omega
    · by_cases c2 : v k = x
      · rw [if_neg c, if_pos (by omega), if_pos c2]; omega
      · rw [if_neg c, if_neg (by omega), if_neg c2]; omega
theorem eqc_0 {v : Nat → Nat} {x : Nat} : ∀ {k : Nat}, (∀ i, i < k → v i ≠ x) → eqc v x k = 0 := by
  intro k
  induction k with
  | zero => intro _; rfl
  | succ k ih =>
    intro h
    rw [eqc_s, ih fun i hi => h i (by omega), if_neg (h k (Nat.lt_succ_self k))]
theorem eqc_1 {v : Nat → Nat} {x i : Nat} : ∀ {k : Nat}, i < k → v i = x → (∀ j, j < k → v j = x → j = i) → eqc v x k = 1 := by
  intro k
  induction k with
  | zero => intro h; omega
  | succ k ih =>
    intro hi e hu
    rw [eqc_s]
    by_cases c : i = k
    · subst c
      rw [eqc_0 fun j hj z => by have := hu j (by omega) z; omega, if_pos e]
    · rw [ih (by omega) e fun j hj z => hu j (by omega) z, if_neg fun z => c (hu k (Nat.lt_succ_self k) z).symm]
theorem cnt_0 {v : Nat → Nat} : ∀ {k : Nat}, (∀ i, i < k → 1 ≤ v i) → cnt v 1 k = 0 := by
  intro k
  induction k with
  | zero => intro _; rfl
  | succ k ih =>
    intro h
    have := h k (Nat.lt_succ_self k)
    rw [cnt_s, ih fun i hi => h i (by omega), if_neg (by omega)]
theorem cnt_mono (v : Nat → Nat) {x y : Nat} (h : x ≤ y) : ∀ k, cnt v x k ≤ cnt v y k := by
  intro k
  induction k with
  | zero => exact Nat.le_refl _
  | succ k ih =>
    rw [cnt_s, cnt_s]
    split <;> split <;> omega
theorem cnt_le {v : Nat → Nat} {x k : Nat} : cnt v x k ≤ k := by
  induction k with
  | zero => exact Nat.le_refl _
  | succ k ih => rw [cnt_s]; split <;> omega
theorem cnt_ext {v v' : Nat → Nat} {x : Nat} : ∀ {k : Nat}, (∀ i, i < k → v i = v' i) → cnt v x k = cnt v' x k := by
  intro k
  induction k with
  | zero => intro _; rfl
  | succ k ih => intro h; rw [cnt_s, cnt_s, ih fun i hi => h i (by omega), h k (Nat.lt_succ_self k)]
theorem tv_1 {n : Nat} {t : Nat → Nat} (hn : 0 < n) (i : Nat) : 1 ≤ tv n t i := by
  unfold tv
  split <;> omega
theorem tv_n {n : Nat} {t : Nat → Nat} (h : PermN n t) {i : Nat} (hi : i < n) : tv n t i ≤ n := by
  have := h.1 i hi
  unfold tv
  split <;> omega
theorem tv_inj {n : Nat} {t : Nat → Nat} (h : PermN n t) {i j : Nat} (hi : i < n) (hj : j < n) (e : tv n t i = tv n t j) : i = j := by
  have h1 := h.1 i hi
  have h2 := h.1 j hj
  refine h.2 i j hi hj ?_
  unfold tv at e
  by_cases c1 : t i = 0
  · by_cases c2 : t j = 0
    · rw [c1, c2]
    · rw [if_pos c1, if_neg c2] at e; omega
  · by_cases c2 : t j = 0
    · rw [if_neg c1, if_pos c2] at e; omega
    · rw [if_neg c1, if_neg c2] at e; exact e
theorem tv_sur {n : Nat} {t : Nat → Nat} (h : PermN n t) {x : Nat} (h1 : 1 ≤ x) (h2 : x ≤ n) : ∃ i, i < n ∧ tv n t i = x := by
  by_cases c : x = n
  · obtain ⟨i, hi, e⟩ := h.surj 0 (by omega)
    exact ⟨i, hi, by unfold tv; rw [if_pos e, c]⟩
  · obtain ⟨i, hi, e⟩ := h.surj x (by omega)
    exact ⟨i, hi, by unfold tv; rw [e, if_neg (by omega)]⟩
theorem cnt_all {n : Nat} {t : Nat → Nat} (h : PermN n t) : ∀ x, x ≤ n → cnt (tv n t) (x + 1) n = x := by
  intro x
  induction x with
  | zero =>
    intro _
    rcases Nat.eq_zero_or_pos n with e | e
    · subst e; rfl
    · exact cnt_0 fun i _ => tv_1 e i
  | succ x ih =>
    intro hx
    obtain ⟨i, hi, e⟩ := tv_sur h (x := x + 1) (by omega) hx
    rw [cnt_x, ih (by omega), eqc_1 hi e fun j hj z => tv_inj h hj hi (z.trans e.symm)]
theorem lessC_cnt (v : Nat → Nat) (o : Nat) : ∀ k, o + 1 ≤ k → lessC v o k + cnt v (v o) (o + 1) = cnt v (v o) k := by
  intro k
  induction k with
  | zero => intro h; omega
  | succ k ih =>
    intro h
    rw [lessC_s, cnt_s v (v o) k]
    by_cases c : o = k
    · subst c
      rw [lessC_0 v o o (by omega), if_neg (by omega), cnt_s]
      simp
    · have := ih (by omega)
      by_cases c2 : v k < v o
      · rw [if_pos ⟨by omega, c2⟩, if_pos c2]; omega
      · rw [if_neg (fun z => c2 z.2), if_neg c2]; omega
theorem less_pre {n : Nat} {t : Nat → Nat} (h : PermN n t) {o : Nat} (ho : o < n) : lessC (tv n t) o n + cnt (tv n t) (tv n t o) o + 1 = tv n t o := by
  have h1 := lessC_cnt (tv n t) o n ho
  have h2 := tv_1 (t := t) (show 0 < n by omega) o
  have h3 := tv_n h ho
  have h4 := cnt_all h (tv n t o - 1) (by omega)
  rw [show tv n t o - 1 + 1 = tv n t o by omega] at h4
  rw [cnt_s, if_neg (by omega)] at h1
  omega
/-- n factorial -/
def fct : Nat → Nat
  | 0 => 1
  | k + 1 => (k + 1) * fct k
theorem fct_s (k : Nat) : fct (k + 1) = (k + 1) * fct k := rfl
theorem fct_pos : ∀ k, 0 < fct k := by
  intro k
  induction k with
  | zero => exact Nat.one_pos
  | succ k ih => exact Nat.mul_pos (Nat.succ_pos k) ih
theorem rk_split {n : Nat} {t : Nat → Nat} : ∀ j k, k + j = n → ∃ r, r < fct j ∧ rkN n t = rkC n t k * fct j + r := by
  intro j
  induction j with
  | zero =>
    intro k hk
    refine ⟨0, Nat.one_pos, ?_⟩
    have : k = n := by omega
    subst this
    show rkC k t k = rkC k t k * 1 + 0
    omega
  | succ j ih =>
    intro k hk
    obtain ⟨r, h1, h2⟩ := ih (k + 1) (by omega)
    have h3 := lessC_le2 (tv n t) k n
    have e : n - k = j + 1 := by omega
    rw [rkC_s, e] at h2
    refine ⟨lessC (tv n t) k n * fct j + r, ?_, ?_⟩
    · have h4 : (lessC (tv n t) k n + 1) * fct j ≤ (j + 1) * fct j := Nat.mul_le_mul_right _ (by omega)
      rw [Nat.add_mul] at h4
      rw [fct_s]
      omega
    · rw [h2, fct_s, Nat.add_mul, Nat.mul_assoc]
      omega
theorem rkN_lt (n : Nat) (t : Nat → Nat) : rkN n t < fct n := by
  obtain ⟨r, h1, h2⟩ := rk_split (n := n) (t := t) n 0 (Nat.zero_add n)
  rw [h2]
  show 0 * fct n + r < fct n
  omega
theorem divmod_u {a b c x y : Nat} (hx : x < c) (hy : y < c) (h : a * c + x = b * c + y) : a = b ∧ x = y := by
  have h1 : (a * c + x) / c = a := by rw [Nat.mul_comm, Nat.mul_add_div (by omega), Nat.div_eq_of_lt hx, Nat.add_zero]
  have h2 : (b * c + y) / c = b := by rw [Nat.mul_comm, Nat.mul_add_div (by omega), Nat.div_eq_of_lt hy, Nat.add_zero]
  have h3 : a = b := by rw [← h1, ← h2, h]
  subst h3
  exact ⟨rfl, by omega⟩
/-- the unused values below: it grows at unused values -/
theorem cnt_step {v : Nat → Nat} {k x : Nat} (hinj : ∀ i j, i < k → j < k → v i = v j → i = j) : eqc v x k ≤ 1 := by
  by_cases c : ∃ i, i < k ∧ v i = x
  · obtain ⟨i, hi, e⟩ := c
    rw [eqc_1 hi e fun j hj z => hinj j i hj hi (z.trans e.symm)]
    exact Nat.le_refl _
  · rw [eqc_0 fun i hi e => c ⟨i, hi, e⟩]
    exact Nat.zero_le _
theorem cnt_gap {v : Nat → Nat} {k : Nat} (hinj : ∀ i j, i < k → j < k → v i = v j → i = j) {x : Nat} (hx : ∀ i, i < k → v i ≠ x) : ∀ y, x < y → cnt v y k + x + 1 ≤ cnt v x k + y := by
  intro y
  induction y with
  | zero => intro h; omega
  | succ y ih =>
    intro h
    rw [cnt_x]
    by_cases c : x = y
    · subst c
      rw [eqc_0 hx]
      omega
    · have h1 := ih (by omega)
      have h2 := cnt_step (x := y) hinj
      omega
theorem rk_inj {n : Nat} {t t' : Nat → Nat} (h : PermN n t) (h' : PermN n t') (e : rkN n t = rkN n t') : ∀ i, i < n → t i = t' i := by
  have hC : ∀ k, k ≤ n → rkC n t k = rkC n t' k := by
    intro k hk
    obtain ⟨r, h1, h2⟩ := rk_split (n := n) (t := t) (n - k) k (by omega)
    obtain ⟨r', h1', h2'⟩ := rk_split (n := n) (t := t') (n - k) k (by omega)
    exact (divmod_u h1 h1' (by rw [← h2, ← h2', e])).1
  have hL : ∀ k, k < n → lessC (tv n t) k n = lessC (tv n t') k n := by
    intro k hk
    have h1 := hC k (by omega)
    have h2 := hC (k + 1) hk
    rw [rkC_s, rkC_s, h1] at h2
    omega
  have hv : ∀ k, k ≤ n → ∀ i, i < k → tv n t i = tv n t' i := by
    intro k
    induction k with
    | zero => intro _ i hi; omega
    | succ k ih =>
      intro hk i hi
      have ih := ih (by omega)
      by_cases c : i = k
      · subst c
        have a1 := less_pre h hk
        have a2 := less_pre h' hk
        have a3 := hL i hk
        rw [← cnt_ext (x := tv n t' i) ih] at a2
        have inj : ∀ a b, a < i → b < i → tv n t a = tv n t b → a = b := fun a b ha hb z => tv_inj h (by omega) (by omega) z
        rcases Nat.lt_trichotomy (tv n t i) (tv n t' i) with c | c | c
        · have := cnt_gap inj (x := tv n t i) (fun j hj z => by have := tv_inj h (by omega) (by omega) z; omega) _ c
          omega
        · exact c
        · have := cnt_gap inj (x := tv n t' i) (fun j hj z => by
            rw [ih j hj] at z
            have := tv_inj h' (by omega) (by omega) z
            omega) _ c
          omega
      · exact ih i (by omega)
  intro i hi
  have h1 := hv n (Nat.le_refl n) i hi
  have h2 := h.1 i hi
  have h3 := h'.1 i hi
  unfold tv at h1
  by_cases c1 : t i = 0
  · by_cases c2 : t' i = 0
    · rw [c1, c2]
    · rw [if_pos c1, if_neg c2] at h1; omega
  · by_cases c2 : t' i = 0
    · rw [if_neg c1, if_pos c2] at h1; omega
    · rw [if_neg c1, if_neg c2] at h1; exact h1
