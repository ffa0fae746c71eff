/-! THE MODEL's methods: the states of a search, Q k i as numbers -/
set_option maxRecDepth 100000
def aMs (v : Option Value) (h : aH) (m : Nat) (P : mS → (Nat → Int64) → Prop) : aO → aH → Prop := fun o h' => ∃ (S' : mS) (L' : Nat → Int64), o = .inl v ∧ h' = mh h m S' L' ∧ P S' L'
theorem call_ms {y n mc ms : Nat} {hs : List (String × Option Nat)} {as rest ls st : List Value} {g : aG} {X : aX} {h h0 : aH} {k s m : Nat} {v : Value} {P : mS → (Nat → Int64) → Prop} (hc : g.1 y as h mc ms (aMs (some v) h0 m P)) (hr : rest.length ≤ 4) (h1 : k + mc ≤ g.2.2.1) (h2 : s + ms ≤ g.2.2.2.1) (hk : ∀ S' L', P S' L' → X n ls (v :: rest) (mh h0 m S' L') (k + mc) (s + ms)) : aCall y hs n as rest g X ls st h k s :=
  call_any hc hr h1 h2 fun o h' q => by
    obtain ⟨S', L', rfl, rfl, q⟩ := q
    exact hk S' L' q
theorem call_msv {y n mc ms : Nat} {hs : List (String × Option Nat)} {as rest ls st : List Value} {g : aG} {X : aX} {h h0 : aH} {k s m : Nat} {P : mS → (Nat → Int64) → Prop} (hc : g.1 y as h mc ms (aMs none h0 m P)) (hr : rest.length ≤ 4) (h1 : k + mc ≤ g.2.2.1) (h2 : s + ms ≤ g.2.2.2.1) (hk : ∀ S' L', P S' L' → X n ls rest (mh h0 m S' L') (k + mc) (s + ms)) : aCall y hs n as rest g X ls st h k s :=
  call_any hc hr h1 h2 fun o h' q => by
    obtain ⟨S', L', rfl, rfl, q⟩ := q
    exact hk S' L' q
def qu (Q : nS) (k i v : Nat) : nS := fun a b => if a = k ∧ b = i then v else Q a b
theorem qu_ne (Q : nS) {k a : Nat} (h : a ≠ k) (i v : Nat) : qu Q k i v a = Q a := by
  funext b
  unfold qu
  rw [if_neg (fun z => h z.1)]
theorem qu_v (Q : nS) (k i v j : Nat) : qu Q k i v k j = if j = i then v else Q k j := by
  unfold qu
  simp only [true_and]
/-- the fields of the states -/
def stf (k : Nat) : Bool := decide ((34 ≤ k ∧ k < 39) ∨ k = 41 ∨ k = 42)
def ST (S : mS) (L : Nat → Int64) (Q : nS) (B : Nat → Nat) : Prop := (∀ k, stf k = true → ∀ i, S k i = nI (Q k i)) ∧ (∀ i, L i = lN (Q 40 i)) ∧ ∀ i, S 39 i = nI (B i)
theorem ST.put {S : mS} {L : Nat → Int64} {Q : nS} {B : Nat → Nat} (h : ST S L Q B) (k i v : Nat) (hk : k ≠ 40 ∧ k ≠ 39) : ST (su S k i (nI v)) L (qu Q k i v) B := by
  refine ⟨fun a ha b => ?_, fun b => ?_, fun b => ?_⟩
  · unfold su qu
    split
    · rfl
    · exact h.1 a ha b
  · rw [qu_ne Q (fun e => hk.1 e.symm)]
    exact h.2.1 b
  · rw [su_ne S (fun e => hk.2 e.symm)]
    exact h.2.2 b
theorem ST.sb {S : mS} {L : Nat → Int64} {Q : nS} {B : Nat → Nat} (h : ST S L Q B) (i v : Nat) : ST (su S 39 i (nI v)) L Q (fun x => if x = i then v else B x) := by
  refine ⟨fun a ha b => ?_, h.2.1, fun b => ?_⟩
  · rw [su_ne S (fun e => by rw [e] at ha; exact absurd ha (by decide))]
    exact h.1 a ha b
  · rw [su_v]
    show _ = nI (if b = i then v else B b)
    split
    · rfl
    · exact h.2.2 b
theorem ST.lu {S : mS} {L : Nat → Int64} {Q : nS} {B : Nat → Nat} (h : ST S L Q B) (i v : Nat) : ST S (vp_updL L i (lN v)) (qu Q 40 i v) B := by
  refine ⟨fun a ha b => ?_, fun b => ?_, h.2.2⟩
  · rw [qu_ne Q (fun e => by rw [e] at ha; exact absurd ha (by decide))]
    exact h.1 a ha b
  · rw [qu_v]
    unfold vp_updL
    split
    · rfl
    · exact h.2.1 b
theorem ST.fr {S S' : mS} {L : Nat → Int64} {Q : nS} {B : Nat → Nat} {ks : List Nat} (h : ST S L Q B) (hF : Fr ks S S') (hk : ks.all (fun k => !stf k && !decide (k = 39)) = true) : ST S' L Q B := by
  have hn : ∀ k, (stf k = true ∨ k = 39) → k ∉ ks := fun k hp hm => by
    have := List.all_eq_true.mp hk k hm
    rcases hp with hp | hp
    · simp [hp] at this
    · subst hp
      exact absurd this (by decide)
  refine ⟨fun k hp i => ?_, h.2.1, fun i => ?_⟩
  · rw [hF k (hn k (.inl hp))]
    exact h.1 k hp i
  · rw [hF 39 (hn 39 (.inr rfl))]
    exact h.2.2 i
def hp (s j : Nat) : Nat := (s + j) % 16384
theorem hp_lt (s j : Nat) : hp s j < 16384 := Nat.mod_lt _ (by decide)
theorem hp_s (s j : Nat) : hp s (j + 1) = if hp s j = 16383 then 0 else hp s j + 1 := by
  unfold hp
  split <;> omega
/-- the buckets find the states by their ranks -/
def HT (Q : nS) (B : Nat → Nat) : Prop := Q 42 0 ≤ 4101 ∧ (∀ x, x < 16384 → B x ≤ Q 42 0) ∧ (∀ x y, x < 16384 → y < 16384 → B x ≠ 0 → B x = B y → x = y) ∧ (∀ i, i < Q 42 0 → ∃ j, j < 16384 ∧ B (hp (Q 40 i % 16381) j) = i + 1 ∧ ∀ j', j' < j → B (hp (Q 40 i % 16381) j') ≠ 0) ∧ (∀ i i', i < Q 42 0 → i' < Q 42 0 → Q 40 i = Q 40 i' → i = i') ∧ ∀ i, i < Q 42 0 → Q 40 i < 2 ^ 63
theorem firstGood {p : Nat → Prop} {n : Nat} (h : ∃ j, j < n ∧ p j) : ∃ K, K < n ∧ p K ∧ ∀ k, k < K → ¬ p k := by
  by_cases c : ∀ k, k < n → ¬ p k
  · obtain ⟨j, hj, hp⟩ := h
    exact absurd hp (c j hj)
  · obtain ⟨K, h1, h2, h3⟩ := firstBad c
    refine ⟨K, h1, ?_, h3⟩
    exact Classical.not_not.mp h2
theorem HT.empty {Q : nS} {B : Nat → Nat} (h : HT Q B) : ∃ x, x < 16384 ∧ B x = 0 := by
  obtain ⟨h1, h2, h3, _⟩ := h
  refine Classical.byContradiction fun hc => ?_
  have hnz : ∀ x, x < 16384 → B x ≠ 0 := fun x hx e => hc ⟨x, hx, e⟩
  have hP : PermN 16384 (fun x => B x - 1) := by
    refine ⟨fun j hj => ?_, fun i j hi hj e => ?_⟩
    · have := h2 j hj
      show B j - 1 < 16384
      omega
    · have a := hnz i hi
      have b := hnz j hj
      exact h3 i j hi hj a (by simp only [] at e; omega)
  obtain ⟨j, hj, e⟩ := hP.surj 16383 (by decide)
  have := h2 j hj
  have e : B j - 1 = 16383 := e
  omega
theorem HT.stop {Q : nS} {B : Nat → Nat} (h : HT Q B) (R : Nat) : ∃ J, J < 16384 ∧ (B (hp (R % 16381) J) = 0 ∨ Q 40 (B (hp (R % 16381) J) - 1) = R) ∧ ∀ j, j < J → B (hp (R % 16381) j) ≠ 0 ∧ Q 40 (B (hp (R % 16381) j) - 1) ≠ R := by
  obtain ⟨x, hx, e⟩ := h.empty
  have hs : R % 16381 < 16381 := Nat.mod_lt _ (by decide)
  obtain ⟨J, h1, h2, h3⟩ := firstGood (p := fun j => B (hp (R % 16381) j) = 0 ∨ Q 40 (B (hp (R % 16381) j) - 1) = R) (n := 16384) ⟨(x + 16384 - R % 16381) % 16384, Nat.mod_lt _ (by decide), by
    left
    have : hp (R % 16381) ((x + 16384 - R % 16381) % 16384) = x := by
      unfold hp
      omega
    rw [this, e]⟩
  exact ⟨J, h1, h2, fun j hj => ⟨fun z => h3 j hj (.inl z), fun z => h3 j hj (.inr z)⟩⟩
/-- the state of a rank -/
def fiK (rk : Nat → Nat) (R : Nat) : Nat → Option Nat
  | 0 => none
  | k + 1 => if rk k = R then some k else fiK rk R k
theorem fiK_n {rk : Nat → Nat} {R : Nat} : ∀ {n : Nat}, (∀ i, i < n → rk i ≠ R) → fiK rk R n = none := by
  intro n
  induction n with
  | zero => intro _; rfl
  | succ n ih =>
    intro h
    unfold fiK
    rw [if_neg (h n (Nat.lt_succ_self n))]
    exact ih fun i hi => h i (by omega)
theorem fiK_s {rk : Nat → Nat} {R i : Nat} : ∀ {n : Nat}, i < n → rk i = R → (∀ j, j < n → rk j = R → j = i) → fiK rk R n = some i := by
  intro n
  induction n with
  | zero => intro hi; exact absurd hi (Nat.not_lt_zero i)
  | succ n ih =>
    intro hi e hu
    unfold fiK
    by_cases c : rk n = R
    · rw [if_pos c, hu n (Nat.lt_succ_self n) c]
    · rw [if_neg c]
      have : i ≠ n := fun z => c (by rw [← z]; exact e)
      exact ih (by omega) e fun j hj => hu j (by omega)
/-- where the search for a rank ends -/
def HS (Q : nS) (B : Nat → Nat) (R b : Nat) : Prop := b < 16384 ∧ ((∃ i, i < Q 42 0 ∧ Q 40 i = R ∧ B b = i + 1 ∧ fiK (Q 40) R (Q 42 0) = some i) ∨ (fiK (Q 40) R (Q 42 0) = none ∧ (∀ i, i < Q 42 0 → Q 40 i ≠ R) ∧ B b = 0 ∧ ∃ j, j < 16384 ∧ b = hp (R % 16381) j ∧ ∀ j', j' < j → B (hp (R % 16381) j') ≠ 0))
theorem HT.HS {Q : nS} {B : Nat → Nat} (h : HT Q B) {R J : Nat} (hJ : J < 16384) (h1 : B (hp (R % 16381) J) = 0 ∨ Q 40 (B (hp (R % 16381) J) - 1) = R) (h2 : ∀ j, j < J → B (hp (R % 16381) j) ≠ 0 ∧ Q 40 (B (hp (R % 16381) j) - 1) ≠ R) : HS Q B R (hp (R % 16381) J) := by
  obtain ⟨a1, a2, a3, a4, a5, a6⟩ := h
  refine ⟨hp_lt _ _, ?_⟩
  by_cases c : B (hp (R % 16381) J) = 0
  · right
    have hno : ∀ i, i < Q 42 0 → Q 40 i ≠ R := fun i hi e => by
      obtain ⟨j, hj, hb, hz⟩ := a4 i hi
      rw [e] at hb hz
      by_cases cj : j < J
      · have := (h2 j cj).2
        rw [hb, Nat.add_sub_cancel] at this
        exact this e
      · by_cases ce : j = J
        · rw [ce, c] at hb
          omega
        · exact hz J (by omega) c
    exact ⟨fiK_n hno, hno, c, J, hJ, rfl, fun j hj => (h2 j hj).1⟩
  · left
    have hR : Q 40 (B (hp (R % 16381) J) - 1) = R := h1.resolve_left c
    have hle := a2 _ (hp_lt (R % 16381) J)
    have hlt : B (hp (R % 16381) J) - 1 < Q 42 0 := by omega
    exact ⟨_, hlt, hR, by omega, fiK_s hlt hR fun j hj e => a5 j _ hj hlt (by rw [e, hR])⟩
theorem q_cmp {a b : Nat} (ha : a < 2 ^ 63) (hb : b < 2 ^ 63) : lg_cmp (lN a) (lN b) = if b < a then nI 1 else if a = b then nI 0 else nM := by
  have e1 : lN a > lN b ↔ b < a := pk_lLT hb ha
  have e2 : lN a = lN b ↔ a = b := pk_lEQ ha hb
  unfold lg_cmp
  simp only [e1, e2]
  rfl
theorem l_rem {a b : Nat} (ha : a < 2 ^ 63) (h0 : 0 < b) (hb : b < 2 ^ 63) : lN a - lN a / lN b * lN b = lN (a % b) := pk_lRem ha h0 hb
theorem zl1 : (1 : Int64) = lN 1 := rfl
theorem zl0 : (0 : Int64) = lN 0 := rfl
theorem l_div {a b : Nat} (ha : a < 2 ^ 63) (h0 : 0 < b) (hb : b < 2 ^ 63) : lN a / lN b = lN (a / b) := pk_lDiv ha h0 hb
theorem l_eq0 {a : Nat} (ha : a < 2 ^ 63) : lN a = lN 0 ↔ a = 0 := pk_lEQ ha (by decide)
theorem zl16381 : (16381 : Int64) = lN 16381 := rfl
theorem c_seek {σ : Nat → Value} {d m R : Nat} {h : aH} {S : mS} {L : Nat → Int64} {Q : nS} {B : Nat → Nat} (hT : ST S L Q B) (hH : HT Q B) (hR : R < 2 ^ 63) : ∃ b, HS Q B R b ∧ CL σ (d + 1) 320 [.ref m, .long (lN R)] (mh h m S L) 0 0 (aPure (.int (nI b)) (mh h m S L)) := by
  obtain ⟨J, hJ, h1, h2⟩ := hH.stop R
  refine ⟨_, hH.HS hJ h1 h2, ?_⟩
  have f39 := hT.2.2
  have fL := hT.2.1
  have hs : R % 16381 < 16381 := Nat.mod_lt _ (by decide)
  have h41 := hH.1
  have e0 : R % 16381 = hp (R % 16381) 0 := by unfold hp; omega
  have e0' : nI (R % 16381) = nI (hp (R % 16381) 0) := congrArg nI e0
  have nM0 : ¬ nM = nI 0 := by decide
  refine CL_in (tb320 _) ml320 (by simp [lay]) ?_
  simp (disch := omega) only [lays, lay, List.replicate, List.append_nil, i_op, o_int, o_long, o_flt, o_null, o_iadd, o_isub, o_imul, o_iand, o_ior, o_ixor, o_idiv, o_irem, o_ineg, o_ishl, o_ishr, o_iushr, o_ladd, o_lsub, o_lmul, o_land, o_lor, o_lxor, o_ldiv, o_lrem, o_lshl, o_lushr, o_lcmp, o_i2l, o_l2i, o_i2c, o_i2b, o_i2d, o_i2f, o_pop, o_dup, o_dup_x1, o_dup2, i_iload, i_lload, i_dload, i_aload, i_istore, i_astore, i_lstore, i_dstore, i_iinc, i_goto, i_ifeq, i_ifne, i_iflt, i_ifge, i_ifgt, i_ifle, i_ceq, i_cne, i_clt, i_cge, i_cgt, i_cle, i_null, i_nnull, i_aeq, i_ane, i_getf, i_putf, i_push, i_alen, i_iald, i_lald, i_aald, i_iast, i_last, i_aast, i_cast, i_inst, i_ret, i_iret, i_lret, i_aret, i_callS, i_callI, i_callV, i_callU, i_ulong, i_oinit, i_mmax, i_mmin, sto1, sto2, Value.category, List.getElem?_cons_zero, List.getElem?_cons_succ, List.drop_succ_cons, List.drop_zero, List.take_succ_cons, List.take_zero, List.reverse_cons, List.reverse_nil, List.nil_append, List.cons_append, List.length_cons, List.length_nil, List.set_cons_zero, List.set_cons_succ, List.lookup_cons, r320_0, r320_1, r320_4, r320_5, r320_6, r320_8, r320_11, r320_12, r320_13, r320_16, r320_17, r320_20, r320_21, r320_24, r320_25, r320_26, r320_27, r320_28, r320_29, r320_30, r320_31, r320_34, r320_35, r320_38, r320_41, r320_42, r320_45, r320_46, r320_47, r320_48, r320_49, r320_52, r320_53, ↓reduceIte, Nat.lt_irrefl, eq_self, ne_eq, not_true_eq_false, q_in, q_nar, q_narZ0, q_narZ1, q_fitI, q_fitL, q_fitZ0, q_fitZ1, q_fitO, q_fitN, q_fitA, q_fitAN, q_clL, q_lt, q_eq, q_lt0, q_0lt, q_eq0, q_eqm, q_inc, q_add1, q_add, q_mul, q_sub, ofNat_nI, true_or, or_true, true_and, and_true, if_true, if_false, Nat.le_refl, Nat.zero_le, not_true_eq_false, not_false_eq_true, Nat.reduceMod, Nat.reduceLT, Nat.reduceLeDiff, Nat.reduceAdd, Nat.reduceEqDiff, Nat.reduceBEq, Nat.reduceSub, Nat.reduceMul, mh_m, mf0, mf1, mf2, mf3, mf4, mf5, mf6, mf7, mf8, mf9, mf10, mf11, mf12, mf13, mf14, mf15, mf16, mf17, mf18, mf19, mf20, mf21, mf22, mf23, mf24, mf25, mf26, mf27, mf28, mf29, mf30, mf31, mf32, mf33, mf34, mf35, mf36, mf37, mf38, mf39, mf40, mf41, mf42, mf43, mf44, mf45, mf46, mf47, mf48, mf49, mf50, mf51, mf52, mf53, mf54, mf55, mf56, mf57, mf58, mf59, mf60, mf61, mf62, mf63, mf64, mf65, mf66, ↓z_m, z0, z1, z2, z3, z4, z5, z6, z7, z8, z9, z10, z12, z13, z14, z15, z16, z20, z24, z31, z32, z48, z50, z56, z63, z100, z108, z114, z117, z127, z200, z255, z500, z720, z1000, z1001, z4101, z6561, z8202, z12345, z16383, z16384, z65535, z1000000, z1000000000, z1103515245, n_ltT, n_ltF, n_eqT, n_eqF, m_eq, m_eq2, m_lt, m_lt2, bI_t1, bI_f1, bI_e1, bI_e0, nI_NO, q_fz0, q_fz1, q_nz0, q_nz1, q_narZ, q_fitZ, oN_n, oN_s, ↓pk_rem', pk_div', Bool.true_eq_false, Bool.false_eq_true, Nat.not_lt_zero, Nat.add_zero, Nat.zero_add, zl16381, zl0, l_eq0, ↓l_rem, lN_i, e0']
  refine upto (x := 0) (n := J) (G := fun j => Rn (aLk T320 σ) _ 7 [.ref m, .long (lN R), jk, .int (nI (hp (R % 16381) j))] [] (mh h m S L) 0 0) (Nat.zero_le _) ?_ (fun j _ hj ih => ?_)
  · have hl := hp_lt (R % 16381) J
    have hle := hH.2.1 _ hl
    rw [r320_7]
    by_cases c : B (hp (R % 16381) J) = 0
    · simp (disch := omega) only [i_op, o_int, o_long, o_flt, o_null, o_iadd, o_isub, o_imul, o_iand, o_ior, o_ixor, o_idiv, o_irem, o_ineg, o_ishl, o_ishr, o_iushr, o_ladd, o_lsub, o_lmul, o_land, o_lor, o_lxor, o_ldiv, o_lrem, o_lshl, o_lushr, o_lcmp, o_i2l, o_l2i, o_i2c, o_i2b, o_i2d, o_i2f, o_pop, o_dup, o_dup_x1, o_dup2, i_iload, i_lload, i_dload, i_aload, i_istore, i_astore, i_lstore, i_dstore, i_iinc, i_goto, i_ifeq, i_ifne, i_iflt, i_ifge, i_ifgt, i_ifle, i_ceq, i_cne, i_clt, i_cge, i_cgt, i_cle, i_null, i_nnull, i_aeq, i_ane, i_getf, i_putf, i_push, i_alen, i_iald, i_lald, i_aald, i_iast, i_last, i_aast, i_cast, i_inst, i_ret, i_iret, i_lret, i_aret, i_callS, i_callI, i_callV, i_callU, i_ulong, i_oinit, i_mmax, i_mmin, sto1, sto2, Value.category, List.getElem?_cons_zero, List.getElem?_cons_succ, List.drop_succ_cons, List.drop_zero, List.take_succ_cons, List.take_zero, List.reverse_cons, List.reverse_nil, List.nil_append, List.cons_append, List.length_cons, List.length_nil, List.set_cons_zero, List.set_cons_succ, List.lookup_cons, r320_0, r320_1, r320_4, r320_5, r320_6, r320_8, r320_11, r320_12, r320_13, r320_16, r320_17, r320_20, r320_21, r320_24, r320_25, r320_26, r320_27, r320_28, r320_29, r320_30, r320_31, r320_34, r320_35, r320_38, r320_41, r320_42, r320_45, r320_46, r320_47, r320_48, r320_49, r320_52, r320_53, ↓reduceIte, Nat.lt_irrefl, eq_self, ne_eq, not_true_eq_false, q_in, q_nar, q_narZ0, q_narZ1, q_fitI, q_fitL, q_fitZ0, q_fitZ1, q_fitO, q_fitN, q_fitA, q_fitAN, q_clL, q_lt, q_eq, q_lt0, q_0lt, q_eq0, q_eqm, q_inc, q_add1, q_add, q_mul, q_sub, ofNat_nI, true_or, or_true, true_and, and_true, if_true, if_false, Nat.le_refl, Nat.zero_le, not_true_eq_false, not_false_eq_true, Nat.reduceMod, Nat.reduceLT, Nat.reduceLeDiff, Nat.reduceAdd, Nat.reduceEqDiff, Nat.reduceBEq, Nat.reduceSub, Nat.reduceMul, mh_m, mf0, mf1, mf2, mf3, mf4, mf5, mf6, mf7, mf8, mf9, mf10, mf11, mf12, mf13, mf14, mf15, mf16, mf17, mf18, mf19, mf20, mf21, mf22, mf23, mf24, mf25, mf26, mf27, mf28, mf29, mf30, mf31, mf32, mf33, mf34, mf35, mf36, mf37, mf38, mf39, mf40, mf41, mf42, mf43, mf44, mf45, mf46, mf47, mf48, mf49, mf50, mf51, mf52, mf53, mf54, mf55, mf56, mf57, mf58, mf59, mf60, mf61, mf62, mf63, mf64, mf65, mf66, ↓z_m, z0, z1, z2, z3, z4, z5, z6, z7, z8, z9, z10, z12, z13, z14, z15, z16, z20, z24, z31, z32, z48, z50, z56, z63, z100, z108, z114, z117, z127, z200, z255, z500, z720, z1000, z1001, z4101, z6561, z8202, z12345, z16383, z16384, z65535, z1000000, z1000000000, z1103515245, n_ltT, n_ltF, n_eqT, n_eqF, m_eq, m_eq2, m_lt, m_lt2, bI_t1, bI_f1, bI_e1, bI_e0, nI_NO, q_fz0, q_fz1, q_nz0, q_nz1, q_narZ, q_fitZ, oN_n, oN_s, ↓pk_rem', pk_div', Bool.true_eq_false, Bool.false_eq_true, Nat.not_lt_zero, Nat.add_zero, Nat.zero_add, ma39, f39, c, aPure, aQ]
    · have hq := h1.resolve_left c
      have hlt : B (hp (R % 16381) J) - 1 < Q 42 0 := by omega
      simp (disch := omega) only [i_op, o_int, o_long, o_flt, o_null, o_iadd, o_isub, o_imul, o_iand, o_ior, o_ixor, o_idiv, o_irem, o_ineg, o_ishl, o_ishr, o_iushr, o_ladd, o_lsub, o_lmul, o_land, o_lor, o_lxor, o_ldiv, o_lrem, o_lshl, o_lushr, o_lcmp, o_i2l, o_l2i, o_i2c, o_i2b, o_i2d, o_i2f, o_pop, o_dup, o_dup_x1, o_dup2, i_iload, i_lload, i_dload, i_aload, i_istore, i_astore, i_lstore, i_dstore, i_iinc, i_goto, i_ifeq, i_ifne, i_iflt, i_ifge, i_ifgt, i_ifle, i_ceq, i_cne, i_clt, i_cge, i_cgt, i_cle, i_null, i_nnull, i_aeq, i_ane, i_getf, i_putf, i_push, i_alen, i_iald, i_lald, i_aald, i_iast, i_last, i_aast, i_cast, i_inst, i_ret, i_iret, i_lret, i_aret, i_callS, i_callI, i_callV, i_callU, i_ulong, i_oinit, i_mmax, i_mmin, sto1, sto2, Value.category, List.getElem?_cons_zero, List.getElem?_cons_succ, List.drop_succ_cons, List.drop_zero, List.take_succ_cons, List.take_zero, List.reverse_cons, List.reverse_nil, List.nil_append, List.cons_append, List.length_cons, List.length_nil, List.set_cons_zero, List.set_cons_succ, List.lookup_cons, r320_0, r320_1, r320_4, r320_5, r320_6, r320_8, r320_11, r320_12, r320_13, r320_16, r320_17, r320_20, r320_21, r320_24, r320_25, r320_26, r320_27, r320_28, r320_29, r320_30, r320_31, r320_34, r320_35, r320_38, r320_41, r320_42, r320_45, r320_46, r320_47, r320_48, r320_49, r320_52, r320_53, ↓reduceIte, Nat.lt_irrefl, eq_self, ne_eq, not_true_eq_false, q_in, q_nar, q_narZ0, q_narZ1, q_fitI, q_fitL, q_fitZ0, q_fitZ1, q_fitO, q_fitN, q_fitA, q_fitAN, q_clL, q_lt, q_eq, q_lt0, q_0lt, q_eq0, q_eqm, q_inc, q_add1, q_add, q_mul, q_sub, ofNat_nI, true_or, or_true, true_and, and_true, if_true, if_false, Nat.le_refl, Nat.zero_le, not_true_eq_false, not_false_eq_true, Nat.reduceMod, Nat.reduceLT, Nat.reduceLeDiff, Nat.reduceAdd, Nat.reduceEqDiff, Nat.reduceBEq, Nat.reduceSub, Nat.reduceMul, mh_m, mf0, mf1, mf2, mf3, mf4, mf5, mf6, mf7, mf8, mf9, mf10, mf11, mf12, mf13, mf14, mf15, mf16, mf17, mf18, mf19, mf20, mf21, mf22, mf23, mf24, mf25, mf26, mf27, mf28, mf29, mf30, mf31, mf32, mf33, mf34, mf35, mf36, mf37, mf38, mf39, mf40, mf41, mf42, mf43, mf44, mf45, mf46, mf47, mf48, mf49, mf50, mf51, mf52, mf53, mf54, mf55, mf56, mf57, mf58, mf59, mf60, mf61, mf62, mf63, mf64, mf65, mf66, ↓z_m, z0, z1, z2, z3, z4, z5, z6, z7, z8, z9, z10, z12, z13, z14, z15, z16, z20, z24, z31, z32, z48, z50, z56, z63, z100, z108, z114, z117, z127, z200, z255, z500, z720, z1000, z1001, z4101, z6561, z8202, z12345, z16383, z16384, z65535, z1000000, z1000000000, z1103515245, n_ltT, n_ltF, n_eqT, n_eqF, m_eq, m_eq2, m_lt, m_lt2, bI_t1, bI_f1, bI_e1, bI_e0, nI_NO, q_fz0, q_fz1, q_nz0, q_nz1, q_narZ, q_fitZ, oN_n, oN_s, ↓pk_rem', pk_div', Bool.true_eq_false, Bool.false_eq_true, Nat.not_lt_zero, Nat.add_zero, Nat.zero_add, ma39, f39, c, ma40, fL, hq, q_cmp, aPure, aQ]
  · have hl := hp_lt (R % 16381) j
    have hle := hH.2.1 _ hl
    have h3 := h2 j hj
    have hlt : B (hp (R % 16381) j) - 1 < Q 42 0 := by omega
    have h63 := hH.2.2.2.2.2 _ hlt
    rw [hp_s] at ih
    rw [r320_7]
    by_cases cl : R < Q 40 (B (hp (R % 16381) j) - 1)
    · by_cases c : hp (R % 16381) j = 16383
      · rw [if_pos c] at ih
        simp (disch := omega) only [i_op, o_int, o_long, o_flt, o_null, o_iadd, o_isub, o_imul, o_iand, o_ior, o_ixor, o_idiv, o_irem, o_ineg, o_ishl, o_ishr, o_iushr, o_ladd, o_lsub, o_lmul, o_land, o_lor, o_lxor, o_ldiv, o_lrem, o_lshl, o_lushr, o_lcmp, o_i2l, o_l2i, o_i2c, o_i2b, o_i2d, o_i2f, o_pop, o_dup, o_dup_x1, o_dup2, i_iload, i_lload, i_dload, i_aload, i_istore, i_astore, i_lstore, i_dstore, i_iinc, i_goto, i_ifeq, i_ifne, i_iflt, i_ifge, i_ifgt, i_ifle, i_ceq, i_cne, i_clt, i_cge, i_cgt, i_cle, i_null, i_nnull, i_aeq, i_ane, i_getf, i_putf, i_push, i_alen, i_iald, i_lald, i_aald, i_iast, i_last, i_aast, i_cast, i_inst, i_ret, i_iret, i_lret, i_aret, i_callS, i_callI, i_callV, i_callU, i_ulong, i_oinit, i_mmax, i_mmin, sto1, sto2, Value.category, List.getElem?_cons_zero, List.getElem?_cons_succ, List.drop_succ_cons, List.drop_zero, List.take_succ_cons, List.take_zero, List.reverse_cons, List.reverse_nil, List.nil_append, List.cons_append, List.length_cons, List.length_nil, List.set_cons_zero, List.set_cons_succ, List.lookup_cons, r320_0, r320_1, r320_4, r320_5, r320_6, r320_8, r320_11, r320_12, r320_13, r320_16, r320_17, r320_20, r320_21, r320_24, r320_25, r320_26, r320_27, r320_28, r320_29, r320_30, r320_31, r320_34, r320_35, r320_38, r320_41, r320_42, r320_45, r320_46, r320_47, r320_48, r320_49, r320_52, r320_53, ↓reduceIte, Nat.lt_irrefl, eq_self, ne_eq, not_true_eq_false, q_in, q_nar, q_narZ0, q_narZ1, q_fitI, q_fitL, q_fitZ0, q_fitZ1, q_fitO, q_fitN, q_fitA, q_fitAN, q_clL, q_lt, q_eq, q_lt0, q_0lt, q_eq0, q_eqm, q_inc, q_add1, q_add, q_mul, q_sub, ofNat_nI, true_or, or_true, true_and, and_true, if_true, if_false, Nat.le_refl, Nat.zero_le, not_true_eq_false, not_false_eq_true, Nat.reduceMod, Nat.reduceLT, Nat.reduceLeDiff, Nat.reduceAdd, Nat.reduceEqDiff, Nat.reduceBEq, Nat.reduceSub, Nat.reduceMul, mh_m, mf0, mf1, mf2, mf3, mf4, mf5, mf6, mf7, mf8, mf9, mf10, mf11, mf12, mf13, mf14, mf15, mf16, mf17, mf18, mf19, mf20, mf21, mf22, mf23, mf24, mf25, mf26, mf27, mf28, mf29, mf30, mf31, mf32, mf33, mf34, mf35, mf36, mf37, mf38, mf39, mf40, mf41, mf42, mf43, mf44, mf45, mf46, mf47, mf48, mf49, mf50, mf51, mf52, mf53, mf54, mf55, mf56, mf57, mf58, mf59, mf60, mf61, mf62, mf63, mf64, mf65, mf66, ↓z_m, z0, z1, z2, z3, z4, z5, z6, z7, z8, z9, z10, z12, z13, z14, z15, z16, z20, z24, z31, z32, z48, z50, z56, z63, z100, z108, z114, z117, z127, z200, z255, z500, z720, z1000, z1001, z4101, z6561, z8202, z12345, z16383, z16384, z65535, z1000000, z1000000000, z1103515245, n_ltT, n_ltF, n_eqT, n_eqF, m_eq, m_eq2, m_lt, m_lt2, bI_t1, bI_f1, bI_e1, bI_e0, nI_NO, q_fz0, q_fz1, q_nz0, q_nz1, q_narZ, q_fitZ, oN_n, oN_s, ↓pk_rem', pk_div', Bool.true_eq_false, Bool.false_eq_true, Nat.not_lt_zero, Nat.add_zero, Nat.zero_add, ma39, f39, h3.1, ma40, fL, q_cmp, nM0]
        exact ih
      · rw [if_neg c] at ih
        simp (disch := omega) only [i_op, o_int, o_long, o_flt, o_null, o_iadd, o_isub, o_imul, o_iand, o_ior, o_ixor, o_idiv, o_irem, o_ineg, o_ishl, o_ishr, o_iushr, o_ladd, o_lsub, o_lmul, o_land, o_lor, o_lxor, o_ldiv, o_lrem, o_lshl, o_lushr, o_lcmp, o_i2l, o_l2i, o_i2c, o_i2b, o_i2d, o_i2f, o_pop, o_dup, o_dup_x1, o_dup2, i_iload, i_lload, i_dload, i_aload, i_istore, i_astore, i_lstore, i_dstore, i_iinc, i_goto, i_ifeq, i_ifne, i_iflt, i_ifge, i_ifgt, i_ifle, i_ceq, i_cne, i_clt, i_cge, i_cgt, i_cle, i_null, i_nnull, i_aeq, i_ane, i_getf, i_putf, i_push, i_alen, i_iald, i_lald, i_aald, i_iast, i_last, i_aast, i_cast, i_inst, i_ret, i_iret, i_lret, i_aret, i_callS, i_callI, i_callV, i_callU, i_ulong, i_oinit, i_mmax, i_mmin, sto1, sto2, Value.category, List.getElem?_cons_zero, List.getElem?_cons_succ, List.drop_succ_cons, List.drop_zero, List.take_succ_cons, List.take_zero, List.reverse_cons, List.reverse_nil, List.nil_append, List.cons_append, List.length_cons, List.length_nil, List.set_cons_zero, List.set_cons_succ, List.lookup_cons, r320_0, r320_1, r320_4, r320_5, r320_6, r320_8, r320_11, r320_12, r320_13, r320_16, r320_17, r320_20, r320_21, r320_24, r320_25, r320_26, r320_27, r320_28, r320_29, r320_30, r320_31, r320_34, r320_35, r320_38, r320_41, r320_42, r320_45, r320_46, r320_47, r320_48, r320_49, r320_52, r320_53, ↓reduceIte, Nat.lt_irrefl, eq_self, ne_eq, not_true_eq_false, q_in, q_nar, q_narZ0, q_narZ1, q_fitI, q_fitL, q_fitZ0, q_fitZ1, q_fitO, q_fitN, q_fitA, q_fitAN, q_clL, q_lt, q_eq, q_lt0, q_0lt, q_eq0, q_eqm, q_inc, q_add1, q_add, q_mul, q_sub, ofNat_nI, true_or, or_true, true_and, and_true, if_true, if_false, Nat.le_refl, Nat.zero_le, not_true_eq_false, not_false_eq_true, Nat.reduceMod, Nat.reduceLT, Nat.reduceLeDiff, Nat.reduceAdd, Nat.reduceEqDiff, Nat.reduceBEq, Nat.reduceSub, Nat.reduceMul, mh_m, mf0, mf1, mf2, mf3, mf4, mf5, mf6, mf7, mf8, mf9, mf10, mf11, mf12, mf13, mf14, mf15, mf16, mf17, mf18, mf19, mf20, mf21, mf22, mf23, mf24, mf25, mf26, mf27, mf28, mf29, mf30, mf31, mf32, mf33, mf34, mf35, mf36, mf37, mf38, mf39, mf40, mf41, mf42, mf43, mf44, mf45, mf46, mf47, mf48, mf49, mf50, mf51, mf52, mf53, mf54, mf55, mf56, mf57, mf58, mf59, mf60, mf61, mf62, mf63, mf64, mf65, mf66, ↓z_m, z0, z1, z2, z3, z4, z5, z6, z7, z8, z9, z10, z12, z13, z14, z15, z16, z20, z24, z31, z32, z48, z50, z56, z63, z100, z108, z114, z117, z127, z200, z255, z500, z720, z1000, z1001, z4101, z6561, z8202, z12345, z16383, z16384, z65535, z1000000, z1000000000, z1103515245, n_ltT, n_ltF, n_eqT, n_eqF, m_eq, m_eq2, m_lt, m_lt2, bI_t1, bI_f1, bI_e1, bI_e0, nI_NO, q_fz0, q_fz1, q_nz0, q_nz1, q_narZ, q_fitZ, oN_n, oN_s, ↓pk_rem', pk_div', Bool.true_eq_false, Bool.false_eq_true, Nat.not_lt_zero, Nat.add_zero, Nat.zero_add, ma39, f39, h3.1, ma40, fL, q_cmp, nM0]
        exact ih
    · by_cases c : hp (R % 16381) j = 16383
      · rw [if_pos c] at ih
        simp (disch := omega) only [i_op, o_int, o_long, o_flt, o_null, o_iadd, o_isub, o_imul, o_iand, o_ior, o_ixor, o_idiv, o_irem, o_ineg, o_ishl, o_ishr, o_iushr, o_ladd, o_lsub, o_lmul, o_land, o_lor, o_lxor, o_ldiv, o_lrem, o_lshl, o_lushr, o_lcmp, o_i2l, o_l2i, o_i2c, o_i2b, o_i2d, o_i2f, o_pop, o_dup, o_dup_x1, o_dup2, i_iload, i_lload, i_dload, i_aload, i_istore, i_astore, i_lstore, i_dstore, i_iinc, i_goto, i_ifeq, i_ifne, i_iflt, i_ifge, i_ifgt, i_ifle, i_ceq, i_cne, i_clt, i_cge, i_cgt, i_cle, i_null, i_nnull, i_aeq, i_ane, i_getf, i_putf, i_push, i_alen, i_iald, i_lald, i_aald, i_iast, i_last, i_aast, i_cast, i_inst, i_ret, i_iret, i_lret, i_aret, i_callS, i_callI, i_callV, i_callU, i_ulong, i_oinit, i_mmax, i_mmin, sto1, sto2, Value.category, List.getElem?_cons_zero, List.getElem?_cons_succ, List.drop_succ_cons, List.drop_zero, List.take_succ_cons, List.take_zero, List.reverse_cons, List.reverse_nil, List.nil_append, List.cons_append, List.length_cons, List.length_nil, List.set_cons_zero, List.set_cons_succ, List.lookup_cons, r320_0, r320_1, r320_4, r320_5, r320_6, r320_8, r320_11, r320_12, r320_13, r320_16, r320_17, r320_20, r320_21, r320_24, r320_25, r320_26, r320_27, r320_28, r320_29, r320_30, r320_31, r320_34, r320_35, r320_38, r320_41, r320_42, r320_45, r320_46, r320_47, r320_48, r320_49, r320_52, r320_53, ↓reduceIte, Nat.lt_irrefl, eq_self, ne_eq, not_true_eq_false, q_in, q_nar, q_narZ0, q_narZ1, q_fitI, q_fitL, q_fitZ0, q_fitZ1, q_fitO, q_fitN, q_fitA, q_fitAN, q_clL, q_lt, q_eq, q_lt0, q_0lt, q_eq0, q_eqm, q_inc, q_add1, q_add, q_mul, q_sub, ofNat_nI, true_or, or_true, true_and, and_true, if_true, if_false, Nat.le_refl, Nat.zero_le, not_true_eq_false, not_false_eq_true, Nat.reduceMod, Nat.reduceLT, Nat.reduceLeDiff, Nat.reduceAdd, Nat.reduceEqDiff, Nat.reduceBEq, Nat.reduceSub, Nat.reduceMul, mh_m, mf0, mf1, mf2, mf3, mf4, mf5, mf6, mf7, mf8, mf9, mf10, mf11, mf12, mf13, mf14, mf15, mf16, mf17, mf18, mf19, mf20, mf21, mf22, mf23, mf24, mf25, mf26, mf27, mf28, mf29, mf30, mf31, mf32, mf33, mf34, mf35, mf36, mf37, mf38, mf39, mf40, mf41, mf42, mf43, mf44, mf45, mf46, mf47, mf48, mf49, mf50, mf51, mf52, mf53, mf54, mf55, mf56, mf57, mf58, mf59, mf60, mf61, mf62, mf63, mf64, mf65, mf66, ↓z_m, z0, z1, z2, z3, z4, z5, z6, z7, z8, z9, z10, z12, z13, z14, z15, z16, z20, z24, z31, z32, z48, z50, z56, z63, z100, z108, z114, z117, z127, z200, z255, z500, z720, z1000, z1001, z4101, z6561, z8202, z12345, z16383, z16384, z65535, z1000000, z1000000000, z1103515245, n_ltT, n_ltF, n_eqT, n_eqF, m_eq, m_eq2, m_lt, m_lt2, bI_t1, bI_f1, bI_e1, bI_e0, nI_NO, q_fz0, q_fz1, q_nz0, q_nz1, q_narZ, q_fitZ, oN_n, oN_s, ↓pk_rem', pk_div', Bool.true_eq_false, Bool.false_eq_true, Nat.not_lt_zero, Nat.add_zero, Nat.zero_add, ma39, f39, h3.1, ma40, fL, q_cmp, nM0]
        exact ih
      · rw [if_neg c] at ih
        simp (disch := omega) only [i_op, o_int, o_long, o_flt, o_null, o_iadd, o_isub, o_imul, o_iand, o_ior, o_ixor, o_idiv, o_irem, o_ineg, o_ishl, o_ishr, o_iushr, o_ladd, o_lsub, o_lmul, o_land, o_lor, o_lxor, o_ldiv, o_lrem, o_lshl, o_lushr, o_lcmp, o_i2l, o_l2i, o_i2c, o_i2b, o_i2d, o_i2f, o_pop, o_dup, o_dup_x1, o_dup2, i_iload, i_lload, i_dload, i_aload, i_istore, i_astore, i_lstore, i_dstore, i_iinc, i_goto, i_ifeq, i_ifne, i_iflt, i_ifge, i_ifgt, i_ifle, i_ceq, i_cne, i_clt, i_cge, i_cgt, i_cle, i_null, i_nnull, i_aeq, i_ane, i_getf, i_putf, i_push, i_alen, i_iald, i_lald, i_aald, i_iast, i_last, i_aast, i_cast, i_inst, i_ret, i_iret, i_lret, i_aret, i_callS, i_callI, i_callV, i_callU, i_ulong, i_oinit, i_mmax, i_mmin, sto1, sto2, Value.category, List.getElem?_cons_zero, List.getElem?_cons_succ, List.drop_succ_cons, List.drop_zero, List.take_succ_cons, List.take_zero, List.reverse_cons, List.reverse_nil, List.nil_append, List.cons_append, List.length_cons, List.length_nil, List.set_cons_zero, List.set_cons_succ, List.lookup_cons, r320_0, r320_1, r320_4, r320_5, r320_6, r320_8, r320_11, r320_12, r320_13, r320_16, r320_17, r320_20, r320_21, r320_24, r320_25, r320_26, r320_27, r320_28, r320_29, r320_30, r320_31, r320_34, r320_35, r320_38, r320_41, r320_42, r320_45, r320_46, r320_47, r320_48, r320_49, r320_52, r320_53, ↓reduceIte, Nat.lt_irrefl, eq_self, ne_eq, not_true_eq_false, q_in, q_nar, q_narZ0, q_narZ1, q_fitI, q_fitL, q_fitZ0, q_fitZ1, q_fitO, q_fitN, q_fitA, q_fitAN, q_clL, q_lt, q_eq, q_lt0, q_0lt, q_eq0, q_eqm, q_inc, q_add1, q_add, q_mul, q_sub, ofNat_nI, true_or, or_true, true_and, and_true, if_true, if_false, Nat.le_refl, Nat.zero_le, not_true_eq_false, not_false_eq_true, Nat.reduceMod, Nat.reduceLT, Nat.reduceLeDiff, Nat.reduceAdd, Nat.reduceEqDiff, Nat.reduceBEq, Nat.reduceSub, Nat.reduceMul, mh_m, mf0, mf1, mf2, mf3, mf4, mf5, mf6, mf7, mf8, mf9, mf10, mf11, mf12, mf13, mf14, mf15, mf16, mf17, mf18, mf19, mf20, mf21, mf22, mf23, mf24, mf25, mf26, mf27, mf28, mf29, mf30, mf31, mf32, mf33, mf34, mf35, mf36, mf37, mf38, mf39, mf40, mf41, mf42, mf43, mf44, mf45, mf46, mf47, mf48, mf49, mf50, mf51, mf52, mf53, mf54, mf55, mf56, mf57, mf58, mf59, mf60, mf61, mf62, mf63, mf64, mf65, mf66, ↓z_m, z0, z1, z2, z3, z4, z5, z6, z7, z8, z9, z10, z12, z13, z14, z15, z16, z20, z24, z31, z32, z48, z50, z56, z63, z100, z108, z114, z117, z127, z200, z255, z500, z720, z1000, z1001, z4101, z6561, z8202, z12345, z16383, z16384, z65535, z1000000, z1000000000, z1103515245, n_ltT, n_ltF, n_eqT, n_eqF, m_eq, m_eq2, m_lt, m_lt2, bI_t1, bI_f1, bI_e1, bI_e0, nI_NO, q_fz0, q_fz1, q_nz0, q_nz1, q_narZ, q_fitZ, oN_n, oN_s, ↓pk_rem', pk_div', Bool.true_eq_false, Bool.false_eq_true, Nat.not_lt_zero, Nat.add_zero, Nat.zero_add, ma39, f39, h3.1, ma40, fL, q_cmp, nM0]
        exact ih
