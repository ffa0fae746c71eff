/-! THE JOINT STATE as Nat numbers N k i (fields as in 910), what holds of it, literals -/
set_option maxRecDepth 100000
theorem gD_lt {α : Type} {l : List α} {i : Nat} (d : α) (h : i < l.length) : l.getD i d = l[i] := by rw [List.getD_eq_getElem?_getD, List.getElem?_eq_getElem h]; rfl
theorem gD_ge {α : Type} {l : List α} {i : Nat} (d : α) (h : l.length ≤ i) : l.getD i d = d := by rw [List.getD_eq_getElem?_getD, List.getElem?_eq_none h]; rfl
theorem gD_al {α : Type} {l r : List α} {i : Nat} (d : α) (h : i < l.length) : (l ++ r).getD i d = l.getD i d := by rw [List.getD_eq_getElem?_getD, List.getD_eq_getElem?_getD, List.getElem?_append_left h]
theorem gD_ar {α : Type} {l r : List α} {i : Nat} (d : α) (h : l.length ≤ i) : (l ++ r).getD i d = r.getD (i - l.length) d := by rw [List.getD_eq_getElem?_getD, List.getD_eq_getElem?_getD, List.getElem?_append_right h]
def nM : Int32 := -1
theorem z_m : (-1 : Int32) = nM := rfl
theorem z0 : (0 : Int32) = nI 0 := rfl
theorem z1 : (1 : Int32) = nI 1 := rfl
theorem z2 : (2 : Int32) = nI 2 := rfl
theorem z3 : (3 : Int32) = nI 3 := rfl
theorem z4 : (4 : Int32) = nI 4 := rfl
theorem z5 : (5 : Int32) = nI 5 := rfl
theorem z6 : (6 : Int32) = nI 6 := rfl
theorem z7 : (7 : Int32) = nI 7 := rfl
theorem z8 : (8 : Int32) = nI 8 := rfl
theorem z9 : (9 : Int32) = nI 9 := rfl
theorem z10 : (10 : Int32) = nI 10 := rfl
theorem z12 : (12 : Int32) = nI 12 := rfl
theorem z13 : (13 : Int32) = nI 13 := rfl
theorem z14 : (14 : Int32) = nI 14 := rfl
theorem z15 : (15 : Int32) = nI 15 := rfl
theorem z16 : (16 : Int32) = nI 16 := rfl
theorem z20 : (20 : Int32) = nI 20 := rfl
theorem z24 : (24 : Int32) = nI 24 := rfl
theorem z31 : (31 : Int32) = nI 31 := rfl
theorem z32 : (32 : Int32) = nI 32 := rfl
theorem z48 : (48 : Int32) = nI 48 := rfl
theorem z50 : (50 : Int32) = nI 50 := rfl
theorem z56 : (56 : Int32) = nI 56 := rfl
theorem z63 : (63 : Int32) = nI 63 := rfl
theorem z100 : (100 : Int32) = nI 100 := rfl
theorem z108 : (108 : Int32) = nI 108 := rfl
theorem z114 : (114 : Int32) = nI 114 := rfl
theorem z117 : (117 : Int32) = nI 117 := rfl
theorem z127 : (127 : Int32) = nI 127 := rfl
theorem z200 : (200 : Int32) = nI 200 := rfl
theorem z255 : (255 : Int32) = nI 255 := rfl
theorem z500 : (500 : Int32) = nI 500 := rfl
theorem z720 : (720 : Int32) = nI 720 := rfl
theorem z1000 : (1000 : Int32) = nI 1000 := rfl
theorem z1001 : (1001 : Int32) = nI 1001 := rfl
theorem z4101 : (4101 : Int32) = nI 4101 := rfl
theorem z6561 : (6561 : Int32) = nI 6561 := rfl
theorem z8202 : (8202 : Int32) = nI 8202 := rfl
theorem z12345 : (12345 : Int32) = nI 12345 := rfl
theorem z16383 : (16383 : Int32) = nI 16383 := rfl
theorem z16384 : (16384 : Int32) = nI 16384 := rfl
theorem z65535 : (65535 : Int32) = nI 65535 := rfl
theorem z1000000 : (1000000 : Int32) = nI 1000000 := rfl
theorem z1000000000 : (1000000000 : Int32) = nI 1000000000 := rfl
theorem z1103515245 : (1103515245 : Int32) = nI 1103515245 := rfl
def NO : Nat := 4294967295
theorem nI_NO : nI NO = nM := by decide +kernel
theorem q_if1 {p : Prop} [Decidable p] {α : Sort _} {a b : α} (h : p) : (if p then a else b) = a := if_pos h
theorem q_if0 {p : Prop} [Decidable p] {α : Sort _} {a b : α} (h : ¬ p) : (if p then a else b) = b := if_neg h
theorem n_ltT {a b : Nat} (h : a < b) : (a < b) = True := eq_true h
theorem n_ltF {a b : Nat} (h : b ≤ a) : (a < b) = False := eq_false (by omega)
theorem n_eqT {a b : Nat} (h : a = b) : (a = b) = True := eq_true h
theorem n_eqF {a b : Nat} (h : a ≠ b) : (a = b) = False := eq_false h
theorem nM_toInt : nM.toInt = -1 := by decide
theorem m_eq {a : Nat} (ha : a < 2 ^ 31) : nI a = nM ↔ False := q_eqm ha
theorem m_eq2 {a : Nat} (ha : a < 2 ^ 31) : nM = nI a ↔ False := ⟨fun h => (q_eqm ha).mp h.symm, fun h => h.elim⟩
theorem m_lt {a : Nat} (ha : a < 2 ^ 31) : nI a < nM ↔ False := by
  rw [Int32.lt_iff_toInt_lt, nI_toInt ha, nM_toInt]
  exact ⟨fun h => by omega, fun h => h.elim⟩
theorem m_lt2 {a : Nat} (ha : a < 2 ^ 31) : nM < nI a ↔ True := by
  rw [Int32.lt_iff_toInt_lt, nI_toInt ha, nM_toInt]
  exact ⟨fun _ => trivial, fun _ => by omega⟩
theorem nI_m1 (n : Nat) : nI (n + 1) + nM = nI n := pk_m1 n
theorem q_fz0 : aFit .boolean (.int (nI 0)) ↔ True := q_fitZ0
theorem q_fz1 : aFit .boolean (.int (nI 1)) ↔ True := q_fitZ1
theorem q_nz0 : narrow .boolean (.int (nI 0)) = .int (nI 0) ↔ True := q_narZ0
theorem q_nz1 : narrow .boolean (.int (nI 1)) = .int (nI 1) ↔ True := q_narZ1
theorem bI_t1 : bI true = nI 1 := rfl
theorem bI_f1 : bI false = nI 0 := rfl
theorem bI_e1 (b : Bool) : bI b = nI 1 ↔ b = true := by cases b <;> decide
theorem bI_e0 (b : Bool) : bI b = nI 0 ↔ b = false := by cases b <;> decide
theorem bI_dec {a : Nat} (h : a ≤ 1) : nI a = bI (decide (a = 1)) := by
  have h2 : a = 0 ∨ a = 1 := by omega
  rcases h2 with rfl | rfl <;> rfl
abbrev nS : Type := Nat → Nat → Nat
/-- the fields that last -/
def pers (k : Nat) : Bool := decide (k < 8 ∨ (9 ≤ k ∧ k < 23) ∨ k = 28 ∨ k = 29 ∨ k = 30 ∨ k = 32 ∨ k = 44 ∨ (46 ≤ k ∧ k < 50))
def MI (S : mS) (N : nS) : Prop := ∀ k, pers k = true → ∀ i, S k i = nI (N k i)
theorem MI.fr {S S' : mS} {N : nS} {ks : List Nat} (h : MI S N) (hF : Fr ks S S') (hk : ks.all (fun k => !pers k) = true) : MI S' N := by
  intro k hp i
  rw [hF k (fun hm => ?_)]
  · exact h k hp i
  · have := List.all_eq_true.mp hk k hm
    rw [hp] at this
    exact absurd this (by decide)
/-- the cell beside one -/
def nbC (R C c : Nat) : Nat → Option Nat
  | 0 => if c / C = 0 then none else some (c - C)
  | 1 => if c % C = 0 then none else some (c - 1)
  | 2 => if c % C + 1 = C then none else some (c + 1)
  | _ => if c / C + 1 = R then none else some (c + C)
/-- the open cell beside one -/
def nb (N : nS) (k d : Nat) : Option Nat := match nbC (N 5 0) (N 6 0) (N 0 k) d with
  | none => none
  | some c => if N 4 c = 0 then some (N 1 c) else none
def oN : Option Nat → Nat
  | none => NO
  | some j => j
theorem oN_n : oN none = NO := rfl
theorem oN_s (j : Nat) : oN (some j) = j := rfl
def IsDist (N : nS) (i : Nat) (D : Nat → Nat) : Prop := D i = 0 ∧ (∀ k d j, k < N 7 0 → d < 4 → nb N k d = some j → D j ≤ D k + 1) ∧ ∀ j, j < N 7 0 → j ≠ i → ∃ k d, k < N 7 0 ∧ d < 4 ∧ nb N k d = some j ∧ D j = D k + 1
def PermN (n : Nat) (t : Nat → Nat) : Prop := (∀ j, j < n → t j < n) ∧ ∀ i j, i < n → j < n → t i = t j → i = j
/-- the tray -/
def GGeo (N : nS) : Prop := 2 ≤ N 5 0 ∧ N 5 0 ≤ 4 ∧ 2 ≤ N 6 0 ∧ N 6 0 ≤ 4 ∧ 3 ≤ N 7 0 ∧ N 7 0 ≤ N 5 0 * N 6 0 ∧ (∀ k, k < N 7 0 → N 0 k < N 5 0 * N 6 0 ∧ N 4 (N 0 k) = 0 ∧ N 1 (N 0 k) = k) ∧ (∀ c, c < N 5 0 * N 6 0 → N 4 c ≤ 1 ∧ (N 4 c = 0 → N 1 c < N 7 0 ∧ N 0 (N 1 c) = c)) ∧ (∀ i j, i < j → j < N 7 0 → N 0 i < N 0 j) ∧ (∀ k d, k < N 7 0 → d < 4 → N 2 (4 * k + d) = oN (nb N k d)) ∧ ∀ i, i < N 7 0 → IsDist N i fun j => N 3 (16 * i + j)
/-- goal, weights, free tiles -/
def GAim (N : nS) : Prop := PermN (N 7 0) (N 10) ∧ (∀ j, j < N 7 0 → 1 ≤ N 11 j ∧ N 11 j ≤ 9) ∧ ∀ j, j < N 7 0 → N 12 j ≤ 1
def fN (N : nS) (j : Nat) : Bool := decide (N 12 j = 1)
theorem GGeo.RC {N : nS} (h : GGeo N) : N 5 0 * N 6 0 ≤ 16 := by
  have := Nat.mul_le_mul h.2.1 h.2.2.2.1
  omega
theorem GGeo.n16 {N : nS} (h : GGeo N) : N 7 0 ≤ 16 := by
  have := h.RC
  have := h.2.2.2.2.2.1
  omega
theorem GGeo.co {N : nS} (h : GGeo N) {k : Nat} (hk : k < N 7 0) : N 0 k < N 5 0 * N 6 0 ∧ N 4 (N 0 k) = 0 ∧ N 1 (N 0 k) = k := h.2.2.2.2.2.2.1 k hk
theorem GGeo.oo {N : nS} (h : GGeo N) {c : Nat} (hc : c < N 5 0 * N 6 0) (h0 : N 4 c = 0) : N 1 c < N 7 0 ∧ N 0 (N 1 c) = c := (h.2.2.2.2.2.2.2.1 c hc).2 h0
theorem GGeo.w1 {N : nS} (h : GGeo N) {c : Nat} (hc : c < N 5 0 * N 6 0) : N 4 c ≤ 1 := (h.2.2.2.2.2.2.2.1 c hc).1
theorem GGeo.inc {N : nS} (h : GGeo N) {i j : Nat} (hi : i < j) (hj : j < N 7 0) : N 0 i < N 0 j := h.2.2.2.2.2.2.2.2.1 i j hi hj
theorem GGeo.nr {N : nS} (h : GGeo N) {k d : Nat} (hk : k < N 7 0) (hd : d < 4) : N 2 (4 * k + d) = oN (nb N k d) := h.2.2.2.2.2.2.2.2.2.1 k d hk hd
theorem GGeo.ds {N : nS} (h : GGeo N) {i : Nat} (hi : i < N 7 0) : IsDist N i fun j => N 3 (16 * i + j) := h.2.2.2.2.2.2.2.2.2.2 i hi
theorem nbC_lt {R C c d j : Nat} (hC : 0 < C) (hc : c < R * C) (h : nbC R C c d = some j) : j < R * C := by
  have h1 : c / C < R := (Nat.div_lt_iff_lt_mul hC).mpr hc
  have h2 := Nat.div_add_mod c C
  have h3 := Nat.mod_lt c hC
  unfold nbC at h
  split at h
  · split at h
    · cases h
    · cases h; omega
  · split at h
    · cases h
    · cases h; omega
  · split at h
    · cases h
    · cases h
      have h4 : (c / C + 1) * C ≤ R * C := Nat.mul_le_mul_right _ h1
      rw [Nat.add_mul, Nat.mul_comm (c / C) C] at h4
      omega
  · split at h
    · cases h
    · cases h
      have h4 : (c / C + 1 + 1) * C ≤ R * C := Nat.mul_le_mul_right _ (by omega)
      rw [Nat.add_mul, Nat.add_mul, Nat.mul_comm (c / C) C] at h4
      omega
theorem GGeo.nbl {N : nS} (h : GGeo N) {k d j : Nat} (hk : k < N 7 0) (hb : nb N k d = some j) : j < N 7 0 := by
  unfold nb at hb
  have h1 := (h.co hk).1
  have h6 : 0 < N 6 0 := by have := h.2.2.1; omega
  cases e : nbC (N 5 0) (N 6 0) (N 0 k) d with
  | none => rw [e] at hb; cases hb
  | some c =>
    rw [e] at hb
    simp only [] at hb
    split at hb
    · rename_i h0
      cases hb
      exact (h.oo (nbC_lt h6 h1 e) h0).1
    · cases hb
theorem MI.at {S : mS} {N : nS} (h : MI S N) {k : Nat} (hk : pers k = true) (i : Nat) : S k i = nI (N k i) := h k hk i
theorem MI.gl {S : mS} {N : nS} (h : MI S N) (hA : GAim N) : RowS (S 10) (N 7 0) (N 10) := fun j hj => ⟨h 10 rfl j, hA.1.1 j hj⟩
theorem MI.f {S : mS} {N : nS} (h : MI S N) (hA : GAim N) : ∀ j, j < N 7 0 → S 12 j = bI (fN N j) := fun j hj => by
  rw [h 12 rfl j, bI_dec (hA.2.2 j hj)]
  rfl
theorem MI.w {S : mS} {N : nS} (h : MI S N) : ∀ j, j < N 7 0 → S 11 j = nI (N 11 j) := fun j _ => h 11 rfl j
theorem MI.n {S : mS} {N : nS} (h : MI S N) : S 7 0 = nI (N 7 0) := h 7 rfl 0
theorem bit_o : ∀ out, out < 16 → ∀ k, k < 4 → (nI out >>> (nI k &&& nI 31)) &&& nI 1 = bI (out.testBit k) := by decide +kernel
theorem sh_o : ∀ k, k < 5 → nI 1 <<< (nI k &&& nI 31) = nI (2 ^ k) := by decide +kernel
theorem pk_div' {a d : Nat} (ha : a < 2 ^ 31) (h0 : 0 < d) (hd : d < 2 ^ 31) : nI a / nI d = nI (a / d) := pk_div ha h0 hd
theorem pk_rem' {a d : Nat} (ha : a < 2 ^ 31) (h0 : 0 < d) (hd : d < 2 ^ 31) : nI a - nI a / nI d * nI d = nI (a % d) := pk_rem ha h0 hd
