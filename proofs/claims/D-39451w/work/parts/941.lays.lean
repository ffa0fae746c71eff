/-! THE MODEL's methods: arrangements, lays -/
set_option maxRecDepth 100000
theorem fct63 : ∀ n, n < 17 → fct n < 2 ^ 62 := by decide +kernel
theorem c_arrangements {σ : Nat → Value} {d m n : Nat} {h : aH} {S : mS} {L : Nat → Int64} (h7 : S 7 0 = nI n) (hn : n ≤ 16) (hn2 : 2 ≤ n) : CL σ (d + 1) 255 [.ref m] (mh h m S L) 0 0 (aPure (.long (lN (fct n))) (mh h m S L)) := by
  refine CL_in (tb255 _) ml255 (by simp [lay]) ?_
  simp (disch := omega) only [lays, lay, List.replicate, List.append_nil, i_op, o_int, o_long, o_flt, o_null, o_iadd, o_isub, o_imul, o_iand, o_ior, o_ixor, o_idiv, o_irem, o_ineg, o_ishl, o_ishr, o_iushr, o_ladd, o_lsub, o_lmul, o_land, o_lor, o_lxor, o_ldiv, o_lrem, o_lshl, o_lushr, o_lcmp, o_i2l, o_l2i, o_i2c, o_i2b, o_i2d, o_i2f, o_pop, o_dup, o_dup_x1, o_dup2, i_iload, i_lload, i_dload, i_aload, i_istore, i_astore, i_lstore, i_dstore, i_iinc, i_goto, i_ifeq, i_ifne, i_iflt, i_ifge, i_ifgt, i_ifle, i_ceq, i_cne, i_clt, i_cge, i_cgt, i_cle, i_null, i_nnull, i_aeq, i_ane, i_getf, i_putf, i_push, i_alen, i_iald, i_lald, i_aald, i_iast, i_last, i_aast, i_cast, i_inst, i_ret, i_iret, i_lret, i_aret, i_callS, i_callI, i_callV, i_callU, i_ulong, i_oinit, i_mmax, i_mmin, sto1, sto2, Value.category, List.getElem?_cons_zero, List.getElem?_cons_succ, List.drop_succ_cons, List.drop_zero, List.take_succ_cons, List.take_zero, List.reverse_cons, List.reverse_nil, List.nil_append, List.cons_append, List.length_cons, List.length_nil, List.set_cons_zero, List.set_cons_succ, List.lookup_cons, r255_0, r255_1, r255_2, r255_3, r255_5, r255_6, r255_9, r255_12, r255_13, r255_14, r255_15, r255_16, r255_17, r255_20, r255_23, r255_24, ↓reduceIte, Nat.lt_irrefl, eq_self, ne_eq, not_true_eq_false, q_in, q_nar, q_narZ0, q_narZ1, q_fitI, q_fitL, q_fitZ0, q_fitZ1, q_fitO, q_fitN, q_fitA, q_fitAN, q_clL, q_lt, q_eq, q_lt0, q_0lt, q_eq0, q_eqm, q_inc, q_add1, q_add, q_mul, q_sub, ofNat_nI, true_or, or_true, true_and, and_true, if_true, if_false, Nat.le_refl, Nat.zero_le, not_true_eq_false, not_false_eq_true, Nat.reduceMod, Nat.reduceLT, Nat.reduceLeDiff, Nat.reduceAdd, Nat.reduceEqDiff, Nat.reduceBEq, Nat.reduceSub, Nat.reduceMul, mh_m, mf0, mf1, mf2, mf3, mf4, mf5, mf6, mf7, mf8, mf9, mf10, mf11, mf12, mf13, mf14, mf15, mf16, mf17, mf18, mf19, mf20, mf21, mf22, mf23, mf24, mf25, mf26, mf27, mf28, mf29, mf30, mf31, mf32, mf33, mf34, mf35, mf36, mf37, mf38, mf39, mf40, mf41, mf42, mf43, mf44, mf45, mf46, mf47, mf48, mf49, mf50, mf51, mf52, mf53, mf54, mf55, mf56, mf57, mf58, mf59, mf60, mf61, mf62, mf63, mf64, mf65, mf66, ↓z_m, z0, z1, z2, z3, z4, z5, z6, z7, z8, z9, z10, z12, z13, z14, z15, z16, z20, z24, z31, z32, z48, z50, z56, z63, z100, z108, z114, z117, z127, z200, z255, z500, z720, z1000, z1001, z4101, z6561, z8202, z12345, z16383, z16384, z65535, z1000000, z1000000000, z1103515245, n_ltT, n_ltF, n_eqT, n_eqF, m_eq, m_eq2, m_lt, m_lt2, bI_t1, bI_f1, bI_e1, bI_e0, nI_NO, q_fz0, q_fz1, q_nz0, q_nz1, q_narZ, q_fitZ, oN_n, oN_s, ↓pk_rem', pk_div', Bool.true_eq_false, Bool.false_eq_true, Nat.not_lt_zero, Nat.add_zero, Nat.zero_add, zl1]
  refine upto (x := 2) (n := n + 1) (G := fun x => Rn (aLk T255 σ) _ 4 [.ref m, .long (lN (fct (x - 1))), jk, .int (nI x)] [] (mh h m S L) 0 0) (by omega) ?_ (fun x hx0 hx ih => ?_)
  · rw [r255_4]
    simp (disch := omega) only [i_op, o_int, o_long, o_flt, o_null, o_iadd, o_isub, o_imul, o_iand, o_ior, o_ixor, o_idiv, o_irem, o_ineg, o_ishl, o_ishr, o_iushr, o_ladd, o_lsub, o_lmul, o_land, o_lor, o_lxor, o_ldiv, o_lrem, o_lshl, o_lushr, o_lcmp, o_i2l, o_l2i, o_i2c, o_i2b, o_i2d, o_i2f, o_pop, o_dup, o_dup_x1, o_dup2, i_iload, i_lload, i_dload, i_aload, i_istore, i_astore, i_lstore, i_dstore, i_iinc, i_goto, i_ifeq, i_ifne, i_iflt, i_ifge, i_ifgt, i_ifle, i_ceq, i_cne, i_clt, i_cge, i_cgt, i_cle, i_null, i_nnull, i_aeq, i_ane, i_getf, i_putf, i_push, i_alen, i_iald, i_lald, i_aald, i_iast, i_last, i_aast, i_cast, i_inst, i_ret, i_iret, i_lret, i_aret, i_callS, i_callI, i_callV, i_callU, i_ulong, i_oinit, i_mmax, i_mmin, sto1, sto2, Value.category, List.getElem?_cons_zero, List.getElem?_cons_succ, List.drop_succ_cons, List.drop_zero, List.take_succ_cons, List.take_zero, List.reverse_cons, List.reverse_nil, List.nil_append, List.cons_append, List.length_cons, List.length_nil, List.set_cons_zero, List.set_cons_succ, List.lookup_cons, r255_0, r255_1, r255_2, r255_3, r255_5, r255_6, r255_9, r255_12, r255_13, r255_14, r255_15, r255_16, r255_17, r255_20, r255_23, r255_24, ↓reduceIte, Nat.lt_irrefl, eq_self, ne_eq, not_true_eq_false, q_in, q_nar, q_narZ0, q_narZ1, q_fitI, q_fitL, q_fitZ0, q_fitZ1, q_fitO, q_fitN, q_fitA, q_fitAN, q_clL, q_lt, q_eq, q_lt0, q_0lt, q_eq0, q_eqm, q_inc, q_add1, q_add, q_mul, q_sub, ofNat_nI, true_or, or_true, true_and, and_true, if_true, if_false, Nat.le_refl, Nat.zero_le, not_true_eq_false, not_false_eq_true, Nat.reduceMod, Nat.reduceLT, Nat.reduceLeDiff, Nat.reduceAdd, Nat.reduceEqDiff, Nat.reduceBEq, Nat.reduceSub, Nat.reduceMul, mh_m, mf0, mf1, mf2, mf3, mf4, mf5, mf6, mf7, mf8, mf9, mf10, mf11, mf12, mf13, mf14, mf15, mf16, mf17, mf18, mf19, mf20, mf21, mf22, mf23, mf24, mf25, mf26, mf27, mf28, mf29, mf30, mf31, mf32, mf33, mf34, mf35, mf36, mf37, mf38, mf39, mf40, mf41, mf42, mf43, mf44, mf45, mf46, mf47, mf48, mf49, mf50, mf51, mf52, mf53, mf54, mf55, mf56, mf57, mf58, mf59, mf60, mf61, mf62, mf63, mf64, mf65, mf66, ↓z_m, z0, z1, z2, z3, z4, z5, z6, z7, z8, z9, z10, z12, z13, z14, z15, z16, z20, z24, z31, z32, z48, z50, z56, z63, z100, z108, z114, z117, z127, z200, z255, z500, z720, z1000, z1001, z4101, z6561, z8202, z12345, z16383, z16384, z65535, z1000000, z1000000000, z1103515245, n_ltT, n_ltF, n_eqT, n_eqF, m_eq, m_eq2, m_lt, m_lt2, bI_t1, bI_f1, bI_e1, bI_e0, nI_NO, q_fz0, q_fz1, q_nz0, q_nz1, q_narZ, q_fitZ, oN_n, oN_s, ↓pk_rem', pk_div', Bool.true_eq_false, Bool.false_eq_true, Nat.not_lt_zero, Nat.add_zero, Nat.zero_add, h7, Nat.add_sub_cancel, aPure, aQ]
  · rw [Nat.add_sub_cancel] at ih
    obtain ⟨y, rfl⟩ : ∃ y, x = y + 1 := ⟨x - 1, by omega⟩
    rw [fct_s, Nat.mul_comm] at ih
    rw [Nat.add_sub_cancel]
    rw [r255_4]
    simp (disch := omega) only [i_op, o_int, o_long, o_flt, o_null, o_iadd, o_isub, o_imul, o_iand, o_ior, o_ixor, o_idiv, o_irem, o_ineg, o_ishl, o_ishr, o_iushr, o_ladd, o_lsub, o_lmul, o_land, o_lor, o_lxor, o_ldiv, o_lrem, o_lshl, o_lushr, o_lcmp, o_i2l, o_l2i, o_i2c, o_i2b, o_i2d, o_i2f, o_pop, o_dup, o_dup_x1, o_dup2, i_iload, i_lload, i_dload, i_aload, i_istore, i_astore, i_lstore, i_dstore, i_iinc, i_goto, i_ifeq, i_ifne, i_iflt, i_ifge, i_ifgt, i_ifle, i_ceq, i_cne, i_clt, i_cge, i_cgt, i_cle, i_null, i_nnull, i_aeq, i_ane, i_getf, i_putf, i_push, i_alen, i_iald, i_lald, i_aald, i_iast, i_last, i_aast, i_cast, i_inst, i_ret, i_iret, i_lret, i_aret, i_callS, i_callI, i_callV, i_callU, i_ulong, i_oinit, i_mmax, i_mmin, sto1, sto2, Value.category, List.getElem?_cons_zero, List.getElem?_cons_succ, List.drop_succ_cons, List.drop_zero, List.take_succ_cons, List.take_zero, List.reverse_cons, List.reverse_nil, List.nil_append, List.cons_append, List.length_cons, List.length_nil, List.set_cons_zero, List.set_cons_succ, List.lookup_cons, r255_0, r255_1, r255_2, r255_3, r255_5, r255_6, r255_9, r255_12, r255_13, r255_14, r255_15, r255_16, r255_17, r255_20, r255_23, r255_24, ↓reduceIte, Nat.lt_irrefl, eq_self, ne_eq, not_true_eq_false, q_in, q_nar, q_narZ0, q_narZ1, q_fitI, q_fitL, q_fitZ0, q_fitZ1, q_fitO, q_fitN, q_fitA, q_fitAN, q_clL, q_lt, q_eq, q_lt0, q_0lt, q_eq0, q_eqm, q_inc, q_add1, q_add, q_mul, q_sub, ofNat_nI, true_or, or_true, true_and, and_true, if_true, if_false, Nat.le_refl, Nat.zero_le, not_true_eq_false, not_false_eq_true, Nat.reduceMod, Nat.reduceLT, Nat.reduceLeDiff, Nat.reduceAdd, Nat.reduceEqDiff, Nat.reduceBEq, Nat.reduceSub, Nat.reduceMul, mh_m, mf0, mf1, mf2, mf3, mf4, mf5, mf6, mf7, mf8, mf9, mf10, mf11, mf12, mf13, mf14, mf15, mf16, mf17, mf18, mf19, mf20, mf21, mf22, mf23, mf24, mf25, mf26, mf27, mf28, mf29, mf30, mf31, mf32, mf33, mf34, mf35, mf36, mf37, mf38, mf39, mf40, mf41, mf42, mf43, mf44, mf45, mf46, mf47, mf48, mf49, mf50, mf51, mf52, mf53, mf54, mf55, mf56, mf57, mf58, mf59, mf60, mf61, mf62, mf63, mf64, mf65, mf66, ↓z_m, z0, z1, z2, z3, z4, z5, z6, z7, z8, z9, z10, z12, z13, z14, z15, z16, z20, z24, z31, z32, z48, z50, z56, z63, z100, z108, z114, z117, z127, z200, z255, z500, z720, z1000, z1001, z4101, z6561, z8202, z12345, z16383, z16384, z65535, z1000000, z1000000000, z1103515245, n_ltT, n_ltF, n_eqT, n_eqF, m_eq, m_eq2, m_lt, m_lt2, bI_t1, bI_f1, bI_e1, bI_e0, nI_NO, q_fz0, q_fz1, q_nz0, q_nz1, q_narZ, q_fitZ, oN_n, oN_s, ↓pk_rem', pk_div', Bool.true_eq_false, Bool.false_eq_true, Nat.not_lt_zero, Nat.add_zero, Nat.zero_add, h7, nI_l, lN_mul]
    exact ih
/-- the values from 1 to x that are unused -/
def ucK (v : Nat → Nat) (k : Nat) : Nat → Nat
  | 0 => 0
  | x + 1 => ucK v k x + (1 - eqc v (x + 1) k)
theorem ucK_s (v : Nat → Nat) (k x : Nat) : ucK v k (x + 1) = ucK v k x + (1 - eqc v (x + 1) k) := rfl
theorem ucK_cnt {v : Nat → Nat} {k : Nat} (h1 : ∀ i, i < k → 1 ≤ v i) (hinj : ∀ i j, i < k → j < k → v i = v j → i = j) : ∀ x, ucK v k x + cnt v (x + 1) k = x := by
  intro x
  induction x with
  | zero => rw [cnt_0 h1]; rfl
  | succ x ih =>
    have := cnt_step (x := x + 1) hinj
    rw [ucK_s, cnt_x v (x + 1)]
    omega
theorem ucK_mono (v : Nat → Nat) (k : Nat) : ∀ j x, ucK v k x ≤ ucK v k (x + j) := by
  intro j
  induction j with
  | zero => exact fun x => Nat.le_refl _
  | succ j ih =>
    intro x
    have := ih x
    rw [show x + (j + 1) = x + j + 1 by omega, ucK_s]
    omega
theorem cnt_top {v : Nat → Nat} {x : Nat} : ∀ {k : Nat}, (∀ i, i < k → v i < x) → cnt v x k = k := by
  intro k
  induction k with
  | zero => intro _; rfl
  | succ k ih => intro h; rw [cnt_s, ih fun i hi => h i (by omega), if_pos (h k (Nat.lt_succ_self k))]
/-- the q-th unused value -/
theorem ucK_nth {v : Nat → Nat} {k n q : Nat} (h1 : ∀ i, i < k → 1 ≤ v i ∧ v i ≤ n) (hinj : ∀ i j, i < k → j < k → v i = v j → i = j) (hq : q + k < n) : ∃ y, y < n ∧ ucK v k y = q ∧ eqc v (y + 1) k = 0 ∧ ∀ z, z ≤ y → ucK v k z ≤ q := by
  have hU := ucK_cnt (fun i hi => (h1 i hi).1) hinj
  obtain ⟨x, hx, hxq, hm⟩ := firstGood (p := fun x => q < ucK v k x) (n := n + 1) ⟨n, Nat.lt_succ_self n, by
    have := hU n
    rw [cnt_top fun i hi => by have := (h1 i hi).2; omega] at this
    show q < ucK v k n
    omega⟩
  cases x with
  | zero => exact absurd hxq (Nat.not_lt_zero q)
  | succ y =>
    have h2 := hm y (Nat.lt_succ_self y)
    have hxq : q < ucK v k (y + 1) := hxq
    have h2 : ¬ q < ucK v k y := h2
    rw [ucK_s] at hxq
    refine ⟨y, by omega, by omega, by omega, fun z hz => ?_⟩
    have := ucK_mono v k (y - z) z
    rw [show z + (y - z) = y by omega] at this
    omega
def rkP (n : Nat) (t : Nat → Nat) : Nat → Nat
  | 0 => 0
  | k + 1 => rkP n t k * (n - k) + (tv n t k - 1 - cnt (tv n t) (tv n t k) k)
theorem rkP_s (n : Nat) (t : Nat → Nat) (k : Nat) : rkP n t (k + 1) = rkP n t k * (n - k) + (tv n t k - 1 - cnt (tv n t) (tv n t k) k) := rfl
theorem rkP_ext {n : Nat} {t t' : Nat → Nat} : ∀ {k : Nat}, (∀ i, i < k → t i = t' i) → rkP n t k = rkP n t' k := by
  intro k
  induction k with
  | zero => intro _; rfl
  | succ k ih =>
    intro h
    have e : ∀ i, i < k + 1 → tv n t i = tv n t' i := fun i hi => by unfold tv; rw [h i hi]
    rw [rkP_s, rkP_s, ih fun i hi => h i (by omega), e k (Nat.lt_succ_self k), cnt_ext fun i hi => e i (by omega)]
theorem rkP_rk {n : Nat} {t : Nat → Nat} (h : PermN n t) : ∀ k, k ≤ n → rkP n t k = rkC n t k := by
  intro k
  induction k with
  | zero => intro _; rfl
  | succ k ih =>
    intro hk
    have := less_pre h hk
    rw [rkP_s, rkC_s, ih (by omega)]
    congr 1
    omega
/-- the arrangement of a rank -/
noncomputable def unR (n R : Nat) : Nat → Nat := Classical.epsilon fun t : Nat → Nat => PermN n t ∧ rkN n t = R
theorem unR_ok {n R : Nat} {t : Nat → Nat} (hP : PermN n t) (hR : rkN n t = R) : PermN n (unR n R) ∧ rkN n (unR n R) = R ∧ ∀ i, i < n → unR n R i = t i := by
  have hs : PermN n (unR n R) ∧ rkN n (unR n R) = R := Classical.epsilon_spec (p := fun t : Nat → Nat => PermN n t ∧ rkN n t = R) ⟨t, hP, hR⟩
  exact ⟨hs.1, hs.2, fun i hi => rk_inj hs.1 hP (hs.2.trans hR.symm) i hi⟩
/-- a step of the laying -/
theorem lay_step {n k q lf R y : Nat} {t : Nat → Nat} (hk : k < n) (ht : ∀ i, i < k → t i < n) (hinj : ∀ i j, i < k → j < k → t i = t j → i = j) (hR : R = rkP n t k * fct (n - k) + lf) (hlf : lf < fct (n - k)) (hq : q = lf / fct (n - (k + 1))) (hy : y < n) (hyq : ucK (tv n t) k y = q) (hy0 : eqc (tv n t) (y + 1) k = 0) :
    (∀ i, i < k + 1 → (fun i => if i = k then (y + 1) % n else t i) i < n) ∧ (∀ i j, i < k + 1 → j < k + 1 → (fun i => if i = k then (y + 1) % n else t i) i = (fun i => if i = k then (y + 1) % n else t i) j → i = j) ∧ R = rkP n (fun i => if i = k then (y + 1) % n else t i) (k + 1) * fct (n - (k + 1)) + lf % fct (n - (k + 1)) ∧ (∀ x, eqc (tv n fun i => if i = k then (y + 1) % n else t i) x (k + 1) = eqc (tv n t) x k + if y + 1 = x then 1 else 0) := by
  have hn0 : 0 < n := by omega
  have hv1 : ∀ i, i < k → 1 ≤ tv n t i ∧ tv n t i ≤ n := fun i hi => ⟨tv_1 hn0 i, by have := ht i hi; unfold tv; split <;> omega⟩
  have hvinj : ∀ i j, i < k → j < k → tv n t i = tv n t j → i = j := fun i j hi hj e => by
    have a := ht i hi
    have b := ht j hj
    refine hinj i j hi hj ?_
    unfold tv at e
    by_cases c1 : t i = 0
    · by_cases c2 : t j = 0
      · rw [c1, c2]
      · rw [if_pos c1, if_neg c2] at e; omega
    · by_cases c2 : t j = 0
      · rw [if_neg c1, if_pos c2] at e; omega
      · rw [if_neg c1, if_neg c2] at e; exact e
  have hnew : tv n (fun i => if i = k then (y + 1) % n else t i) k = y + 1 := by
    unfold tv
    simp only [if_true]
    by_cases c : y + 1 = n
    · rw [c, Nat.mod_self, if_pos rfl]
    · rw [Nat.mod_eq_of_lt (by omega), if_neg (by omega)]
  have hold : ∀ i, i < k → tv n (fun i => if i = k then (y + 1) % n else t i) i = tv n t i := fun i hi => by
    unfold tv
    simp only [if_neg (show ¬ i = k by omega)]
  have hne : ∀ i, i < k → tv n t i ≠ y + 1 := fun i hi e => by
    have : eqc (tv n t) (y + 1) k = 1 := eqc_1 hi e fun j hj z => hvinj j i hj hi (z.trans e.symm)
    omega
  have heq : ∀ x, eqc (tv n fun i => if i = k then (y + 1) % n else t i) x k = eqc (tv n t) x k := fun x => by
    have : ∀ j, j ≤ k → eqc (tv n fun i => if i = k then (y + 1) % n else t i) x j = eqc (tv n t) x j := by
      intro j
      induction j with
      | zero => intro _; rfl
      | succ j ih => intro hj; rw [eqc_s, eqc_s, ih (by omega), hold j hj]
    exact this k (Nat.le_refl k)
  refine ⟨fun i hi => ?_, fun i j hi hj e => ?_, ?_, fun x => ?_⟩
  · simp only []
    split
    · exact Nat.mod_lt _ hn0
    · exact ht i (by omega)
  · simp only [] at e
    have key : ∀ i, i < k → t i ≠ (y + 1) % n := fun i hi z => hne i hi (by
      rw [← hnew]
      unfold tv
      simp only [if_true]
      rw [z])
    by_cases c1 : i = k
    · by_cases c2 : j = k
      · rw [c1, c2]
      · rw [if_pos c1, if_neg c2] at e
        exact absurd e.symm (key j (by omega))
    · by_cases c2 : j = k
      · rw [if_neg c1, if_pos c2] at e
        exact absurd e (key i (by omega))
      · rw [if_neg c1, if_neg c2] at e
        exact hinj i j (by omega) (by omega) e
  · have hU := ucK_cnt (fun i hi => (hv1 i hi).1) hvinj y
    rw [rkP_s, hnew, cnt_ext hold, rkP_ext (t' := t) (k := k) (fun i hi => if_neg (by omega))]
    have e1 : y + 1 - 1 - cnt (tv n t) (y + 1) k = q := by omega
    have e2 : n - k = n - (k + 1) + 1 := by omega
    have := Nat.div_add_mod lf (fct (n - (k + 1)))
    rw [Nat.mul_comm, ← hq] at this
    rw [e1, hR, e2, fct_s]
    generalize n - (k + 1) = a at *
    rw [Nat.add_mul (rkP n t k * (a + 1)) q (fct a), Nat.mul_assoc (rkP n t k) (a + 1) (fct a)]
    omega
  · rw [eqc_s, hnew, heq]
theorem fct_le (k : Nat) : fct k ≤ fct (k + 1) := by
  rw [fct_s]
  exact Nat.le_mul_of_pos_left _ (Nat.succ_pos k)
theorem fct_leN {a b : Nat} (h : a ≤ b) : fct a ≤ fct b := by
  induction b with
  | zero => rw [Nat.le_zero.mp h]; exact Nat.le_refl _
  | succ b ih =>
    by_cases c : a = b + 1
    · rw [c]; exact Nat.le_refl _
    · exact Nat.le_trans (ih (by omega)) (fct_le b)
set_option maxHeartbeats 1000000 in
theorem c_lays {σ : Nat → Value} {d m r o n R : Nat} {h : aH} {S : mS} {L : Nat → Int64} (hr : IsR r o) (h7 : S 7 0 = nI n) (hn : n ≤ 16) (hn2 : 2 ≤ n) (hR : R < fct n) : CL σ (d + 2) 295 [.ref m, .long (lN R), .ref (m + o)] (mh h m S L) 0 0 (aMw none h m L fun S' => Fr [25, r] S S' ∧ PermN n (unR n R) ∧ rkN n (unR n R) = R ∧ RowS (S' r) n (unR n R) ∧ ∀ i, n ≤ i → S' r i = S r i) := by
  have hf62 := fct63 n (by omega)
  have z01 : nI 0 - nI 1 = nM := by decide
  have hm0 : ¬ nM = nI 0 := by decide
  refine CL_in (tb295 _) ml295 (by simp [lay]) ?_
  simp (disch := omega) only [lays, lay, List.replicate, List.append_nil, List.cons_append, List.nil_append, List.length_cons, List.length_nil, i_op, o_int, o_long, o_flt, o_null, o_iadd, o_isub, o_imul, o_iand, o_ior, o_ixor, o_idiv, o_irem, o_ineg, o_ishl, o_ishr, o_iushr, o_ladd, o_lsub, o_lmul, o_land, o_lor, o_lxor, o_ldiv, o_lrem, o_lshl, o_lushr, o_lcmp, o_i2l, o_l2i, o_i2c, o_i2b, o_i2d, o_i2f, o_pop, o_dup, o_dup_x1, o_dup2, i_iload, i_lload, i_dload, i_aload, i_istore, i_astore, i_lstore, i_dstore, i_iinc, i_goto, i_ifeq, i_ifne, i_iflt, i_ifge, i_ifgt, i_ifle, i_ceq, i_cne, i_clt, i_cge, i_cgt, i_cle, i_null, i_nnull, i_aeq, i_ane, i_getf, i_putf, i_push, i_alen, i_iald, i_lald, i_aald, i_iast, i_last, i_aast, i_cast, i_inst, i_ret, i_iret, i_lret, i_aret, i_callS, i_callI, i_callV, i_callU, i_ulong, i_oinit, i_mmax, i_mmin, sto1, sto2, Value.category, List.getElem?_cons_zero, List.getElem?_cons_succ, List.drop_succ_cons, List.drop_zero, List.take_succ_cons, List.take_zero, List.reverse_cons, List.reverse_nil, List.nil_append, List.cons_append, List.length_cons, List.length_nil, List.set_cons_zero, List.set_cons_succ, List.lookup_cons, r295_0, r295_1, r295_3, r295_4, r295_7, r295_9, r295_10, r295_14, r295_15, r295_18, r295_21, r295_22, r295_25, r295_27, r295_28, r295_29, r295_32, r295_35, r295_36, r295_38, r295_40, r295_41, r295_44, r295_47, r295_49, r295_50, r295_53, r295_55, r295_56, r295_57, r295_58, r295_60, r295_62, r295_64, r295_65, r295_66, r295_68, r295_70, r295_72, r295_73, r295_75, r295_76, r295_78, r295_80, r295_83, r295_86, r295_88, r295_89, r295_92, r295_94, r295_95, r295_98, r295_99, r295_100, r295_103, r295_104, r295_107, r295_108, r295_109, r295_111, r295_114, r295_115, r295_118, r295_120, r295_121, r295_124, r295_125, r295_126, r295_127, r295_128, r295_130, r295_132, r295_133, r295_136, r295_137, r295_138, r295_141, r295_144, ↓reduceIte, Nat.lt_irrefl, eq_self, ne_eq, not_true_eq_false, q_in, q_nar, q_narZ0, q_narZ1, q_fitI, q_fitL, q_fitZ0, q_fitZ1, q_fitO, q_fitN, q_fitA, q_fitAN, q_clL, q_lt, q_eq, q_lt0, q_0lt, q_eq0, q_eqm, q_inc, q_add1, q_add, q_mul, q_sub, ofNat_nI, true_or, or_true, true_and, and_true, if_true, if_false, Nat.le_refl, Nat.zero_le, not_true_eq_false, not_false_eq_true, Nat.reduceMod, Nat.reduceLT, Nat.reduceLeDiff, Nat.reduceAdd, Nat.reduceEqDiff, Nat.reduceBEq, Nat.reduceSub, Nat.reduceMul, mh_m, mf0, mf1, mf2, mf3, mf4, mf5, mf6, mf7, mf8, mf9, mf10, mf11, mf12, mf13, mf14, mf15, mf16, mf17, mf18, mf19, mf20, mf21, mf22, mf23, mf24, mf25, mf26, mf27, mf28, mf29, mf30, mf31, mf32, mf33, mf34, mf35, mf36, mf37, mf38, mf39, mf40, mf41, mf42, mf43, mf44, mf45, mf46, mf47, mf48, mf49, mf50, mf51, mf52, mf53, mf54, mf55, mf56, mf57, mf58, mf59, mf60, mf61, mf62, mf63, mf64, mf65, mf66, ↓z_m, z0, z1, z2, z3, z4, z5, z6, z7, z8, z9, z10, z12, z13, z14, z15, z16, z20, z24, z31, z32, z48, z50, z56, z63, z100, z108, z114, z117, z127, z200, z255, z500, z720, z1000, z1001, z4101, z6561, z8202, z12345, z16383, z16384, z65535, z1000000, z1000000000, z1103515245, n_ltT, n_ltF, n_eqT, n_eqF, m_eq, m_eq2, m_lt, m_lt2, bI_t1, bI_f1, bI_e1, bI_e0, nI_NO, q_fz0, q_fz1, q_nz0, q_nz1, q_narZ, q_fitZ, oN_n, oN_s, ↓pk_rem', pk_div', Bool.true_eq_false, Bool.false_eq_true, Nat.not_lt_zero, Nat.add_zero, Nat.zero_add]
  refine call_pure (c_arrangements h7 hn hn2) (by simp) (by simp) (by simp) ?_
  simp (disch := omega) only [i_op, o_int, o_long, o_flt, o_null, o_iadd, o_isub, o_imul, o_iand, o_ior, o_ixor, o_idiv, o_irem, o_ineg, o_ishl, o_ishr, o_iushr, o_ladd, o_lsub, o_lmul, o_land, o_lor, o_lxor, o_ldiv, o_lrem, o_lshl, o_lushr, o_lcmp, o_i2l, o_l2i, o_i2c, o_i2b, o_i2d, o_i2f, o_pop, o_dup, o_dup_x1, o_dup2, i_iload, i_lload, i_dload, i_aload, i_istore, i_astore, i_lstore, i_dstore, i_iinc, i_goto, i_ifeq, i_ifne, i_iflt, i_ifge, i_ifgt, i_ifle, i_ceq, i_cne, i_clt, i_cge, i_cgt, i_cle, i_null, i_nnull, i_aeq, i_ane, i_getf, i_putf, i_push, i_alen, i_iald, i_lald, i_aald, i_iast, i_last, i_aast, i_cast, i_inst, i_ret, i_iret, i_lret, i_aret, i_callS, i_callI, i_callV, i_callU, i_ulong, i_oinit, i_mmax, i_mmin, sto1, sto2, Value.category, List.getElem?_cons_zero, List.getElem?_cons_succ, List.drop_succ_cons, List.drop_zero, List.take_succ_cons, List.take_zero, List.reverse_cons, List.reverse_nil, List.nil_append, List.cons_append, List.length_cons, List.length_nil, List.set_cons_zero, List.set_cons_succ, List.lookup_cons, r295_0, r295_1, r295_3, r295_4, r295_7, r295_9, r295_10, r295_14, r295_15, r295_18, r295_21, r295_22, r295_25, r295_27, r295_28, r295_29, r295_32, r295_35, r295_36, r295_38, r295_40, r295_41, r295_44, r295_47, r295_49, r295_50, r295_53, r295_55, r295_56, r295_57, r295_58, r295_60, r295_62, r295_64, r295_65, r295_66, r295_68, r295_70, r295_72, r295_73, r295_75, r295_76, r295_78, r295_80, r295_83, r295_86, r295_88, r295_89, r295_92, r295_94, r295_95, r295_98, r295_99, r295_100, r295_103, r295_104, r295_107, r295_108, r295_109, r295_111, r295_114, r295_115, r295_118, r295_120, r295_121, r295_124, r295_125, r295_126, r295_127, r295_128, r295_130, r295_132, r295_133, r295_136, r295_137, r295_138, r295_141, r295_144, ↓reduceIte, Nat.lt_irrefl, eq_self, ne_eq, not_true_eq_false, q_in, q_nar, q_narZ0, q_narZ1, q_fitI, q_fitL, q_fitZ0, q_fitZ1, q_fitO, q_fitN, q_fitA, q_fitAN, q_clL, q_lt, q_eq, q_lt0, q_0lt, q_eq0, q_eqm, q_inc, q_add1, q_add, q_mul, q_sub, ofNat_nI, true_or, or_true, true_and, and_true, if_true, if_false, Nat.le_refl, Nat.zero_le, not_true_eq_false, not_false_eq_true, Nat.reduceMod, Nat.reduceLT, Nat.reduceLeDiff, Nat.reduceAdd, Nat.reduceEqDiff, Nat.reduceBEq, Nat.reduceSub, Nat.reduceMul, mh_m, mf0, mf1, mf2, mf3, mf4, mf5, mf6, mf7, mf8, mf9, mf10, mf11, mf12, mf13, mf14, mf15, mf16, mf17, mf18, mf19, mf20, mf21, mf22, mf23, mf24, mf25, mf26, mf27, mf28, mf29, mf30, mf31, mf32, mf33, mf34, mf35, mf36, mf37, mf38, mf39, mf40, mf41, mf42, mf43, mf44, mf45, mf46, mf47, mf48, mf49, mf50, mf51, mf52, mf53, mf54, mf55, mf56, mf57, mf58, mf59, mf60, mf61, mf62, mf63, mf64, mf65, mf66, ↓z_m, z0, z1, z2, z3, z4, z5, z6, z7, z8, z9, z10, z12, z13, z14, z15, z16, z20, z24, z31, z32, z48, z50, z56, z63, z100, z108, z114, z117, z127, z200, z255, z500, z720, z1000, z1001, z4101, z6561, z8202, z12345, z16383, z16384, z65535, z1000000, z1000000000, z1103515245, n_ltT, n_ltF, n_eqT, n_eqF, m_eq, m_eq2, m_lt, m_lt2, bI_t1, bI_f1, bI_e1, bI_e0, nI_NO, q_fz0, q_fz1, q_nz0, q_nz1, q_narZ, q_fitZ, oN_n, oN_s, ↓pk_rem', pk_div', Bool.true_eq_false, Bool.false_eq_true, Nat.not_lt_zero, Nat.add_zero, Nat.zero_add]
  refine upto (x := 0) (n := n) (G := fun x => ∀ S', Fr [25, r] S S' → S' r = S r → (∀ j, j < x → S' 25 j = nI 0) → Rn (aLk T295 σ) _ 12 [.ref m, .long (lN R), jk, .ref (m + o), .long (lN R), jk, .long (lN (fct n)), jk, .int (nI x), jk, jk] [] (mh h m S' L) 0 0) (Nat.zero_le _) (fun S1 hF1 hr0 h25 => ?_) (fun x _ hx ih S' hF hr0 h25 => ?_) S (Fr.rfl' _ S) rfl (fun j hj => absurd hj (by omega))
  · have g7 : S1 7 0 = nI n := by rw [hF1 7 (by rcases hr with ⟨rfl, rfl⟩ | ⟨rfl, rfl⟩ | ⟨rfl, rfl⟩ <;> decide)]; exact h7
    rw [r295_12]
    simp (disch := omega) only [i_op, o_int, o_long, o_flt, o_null, o_iadd, o_isub, o_imul, o_iand, o_ior, o_ixor, o_idiv, o_irem, o_ineg, o_ishl, o_ishr, o_iushr, o_ladd, o_lsub, o_lmul, o_land, o_lor, o_lxor, o_ldiv, o_lrem, o_lshl, o_lushr, o_lcmp, o_i2l, o_l2i, o_i2c, o_i2b, o_i2d, o_i2f, o_pop, o_dup, o_dup_x1, o_dup2, i_iload, i_lload, i_dload, i_aload, i_istore, i_astore, i_lstore, i_dstore, i_iinc, i_goto, i_ifeq, i_ifne, i_iflt, i_ifge, i_ifgt, i_ifle, i_ceq, i_cne, i_clt, i_cge, i_cgt, i_cle, i_null, i_nnull, i_aeq, i_ane, i_getf, i_putf, i_push, i_alen, i_iald, i_lald, i_aald, i_iast, i_last, i_aast, i_cast, i_inst, i_ret, i_iret, i_lret, i_aret, i_callS, i_callI, i_callV, i_callU, i_ulong, i_oinit, i_mmax, i_mmin, sto1, sto2, Value.category, List.getElem?_cons_zero, List.getElem?_cons_succ, List.drop_succ_cons, List.drop_zero, List.take_succ_cons, List.take_zero, List.reverse_cons, List.reverse_nil, List.nil_append, List.cons_append, List.length_cons, List.length_nil, List.set_cons_zero, List.set_cons_succ, List.lookup_cons, r295_0, r295_1, r295_3, r295_4, r295_7, r295_9, r295_10, r295_14, r295_15, r295_18, r295_21, r295_22, r295_25, r295_27, r295_28, r295_29, r295_32, r295_35, r295_36, r295_40, r295_41, r295_44, r295_47, r295_49, r295_50, r295_53, r295_55, r295_56, r295_57, r295_58, r295_60, r295_62, r295_64, r295_65, r295_66, r295_68, r295_70, r295_72, r295_73, r295_75, r295_76, r295_78, r295_80, r295_83, r295_86, r295_88, r295_89, r295_92, r295_94, r295_95, r295_98, r295_99, r295_100, r295_103, r295_104, r295_107, r295_108, r295_109, r295_111, r295_114, r295_115, r295_118, r295_120, r295_121, r295_124, r295_125, r295_126, r295_127, r295_128, r295_130, r295_132, r295_133, r295_136, r295_137, r295_138, r295_141, r295_144, ↓reduceIte, Nat.lt_irrefl, eq_self, ne_eq, not_true_eq_false, q_in, q_nar, q_narZ0, q_narZ1, q_fitI, q_fitL, q_fitZ0, q_fitZ1, q_fitO, q_fitN, q_fitA, q_fitAN, q_clL, q_lt, q_eq, q_lt0, q_0lt, q_eq0, q_eqm, q_inc, q_add1, q_add, q_mul, q_sub, ofNat_nI, true_or, or_true, true_and, and_true, if_true, if_false, Nat.le_refl, Nat.zero_le, not_true_eq_false, not_false_eq_true, Nat.reduceMod, Nat.reduceLT, Nat.reduceLeDiff, Nat.reduceAdd, Nat.reduceEqDiff, Nat.reduceBEq, Nat.reduceSub, Nat.reduceMul, mh_m, mf0, mf1, mf2, mf3, mf4, mf5, mf6, mf7, mf8, mf9, mf10, mf11, mf12, mf13, mf14, mf15, mf16, mf17, mf18, mf19, mf20, mf21, mf22, mf23, mf24, mf25, mf26, mf27, mf28, mf29, mf30, mf31, mf32, mf33, mf34, mf35, mf36, mf37, mf38, mf39, mf40, mf41, mf42, mf43, mf44, mf45, mf46, mf47, mf48, mf49, mf50, mf51, mf52, mf53, mf54, mf55, mf56, mf57, mf58, mf59, mf60, mf61, mf62, mf63, mf64, mf65, mf66, ↓z_m, z0, z1, z2, z3, z4, z5, z6, z7, z8, z9, z10, z12, z13, z14, z15, z16, z20, z24, z31, z32, z48, z50, z56, z63, z100, z108, z114, z117, z127, z200, z255, z500, z720, z1000, z1001, z4101, z6561, z8202, z12345, z16383, z16384, z65535, z1000000, z1000000000, z1103515245, n_ltT, n_ltF, n_eqT, n_eqF, m_eq, m_eq2, m_lt, m_lt2, bI_t1, bI_f1, bI_e1, bI_e0, nI_NO, q_fz0, q_fz1, q_nz0, q_nz1, q_narZ, q_fitZ, oN_n, oN_s, ↓pk_rem', pk_div', Bool.true_eq_false, Bool.false_eq_true, Nat.not_lt_zero, Nat.add_zero, Nat.zero_add, g7]
    refine upto (x := 0) (n := n) (G := fun k => ∀ S' t lf p9 p10, Fr [25, r] S S' → (∀ i, i < k → t i < n) → (∀ i j, i < k → j < k → t i = t j → i = j) → R = rkP n t k * fct (n - k) + lf → lf < fct (n - k) → (∀ x, 1 ≤ x → x ≤ n → S' 25 (x % n) = nI (eqc (tv n t) x k)) → (∀ i, i < k → S' r i = nI (t i)) → (∀ i, n ≤ i → S' r i = S r i) → Rn (aLk T295 σ) _ 38 [.ref m, .long (lN R), jk, .ref (m + o), .long (lN lf), jk, .long (lN (fct (n - k))), jk, .int (nI k), p9, p10] [] (mh h m S' L) 0 0) (Nat.zero_le _) (fun S2 t lf p9 p10 hF2 ht hinj hRk hlf hu hrow hrest => ?_) (fun k _ hk ih S2 t lf p9 p10 hF2 ht hinj hRk hlf hu hrow hrest => ?_) S1 (fun i => i) R jk jk hF1 (fun i hi => absurd hi (by omega)) (fun i j hi => absurd hi (by omega)) (by simp [rkP]) hR (fun x hx1 hx2 => h25 _ (Nat.mod_lt _ (by omega))) (fun i hi => absurd hi (by omega)) (fun i _ => by rw [hr0])
    · have g7 : S2 7 0 = nI n := by rw [hF2 7 (by rcases hr with ⟨rfl, rfl⟩ | ⟨rfl, rfl⟩ | ⟨rfl, rfl⟩ <;> decide)]; exact h7
      rw [r295_38]
      simp (disch := omega) only [i_op, o_int, o_long, o_flt, o_null, o_iadd, o_isub, o_imul, o_iand, o_ior, o_ixor, o_idiv, o_irem, o_ineg, o_ishl, o_ishr, o_iushr, o_ladd, o_lsub, o_lmul, o_land, o_lor, o_lxor, o_ldiv, o_lrem, o_lshl, o_lushr, o_lcmp, o_i2l, o_l2i, o_i2c, o_i2b, o_i2d, o_i2f, o_pop, o_dup, o_dup_x1, o_dup2, i_iload, i_lload, i_dload, i_aload, i_istore, i_astore, i_lstore, i_dstore, i_iinc, i_goto, i_ifeq, i_ifne, i_iflt, i_ifge, i_ifgt, i_ifle, i_ceq, i_cne, i_clt, i_cge, i_cgt, i_cle, i_null, i_nnull, i_aeq, i_ane, i_getf, i_putf, i_push, i_alen, i_iald, i_lald, i_aald, i_iast, i_last, i_aast, i_cast, i_inst, i_ret, i_iret, i_lret, i_aret, i_callS, i_callI, i_callV, i_callU, i_ulong, i_oinit, i_mmax, i_mmin, sto1, sto2, Value.category, List.getElem?_cons_zero, List.getElem?_cons_succ, List.drop_succ_cons, List.drop_zero, List.take_succ_cons, List.take_zero, List.reverse_cons, List.reverse_nil, List.nil_append, List.cons_append, List.length_cons, List.length_nil, List.set_cons_zero, List.set_cons_succ, List.lookup_cons, r295_0, r295_1, r295_3, r295_4, r295_7, r295_9, r295_10, r295_14, r295_15, r295_18, r295_21, r295_22, r295_25, r295_27, r295_28, r295_29, r295_32, r295_35, r295_36, r295_40, r295_41, r295_44, r295_47, r295_49, r295_50, r295_53, r295_55, r295_56, r295_57, r295_58, r295_60, r295_62, r295_64, r295_65, r295_66, r295_68, r295_70, r295_72, r295_73, r295_75, r295_76, r295_78, r295_80, r295_83, r295_86, r295_88, r295_89, r295_92, r295_94, r295_95, r295_98, r295_99, r295_100, r295_103, r295_104, r295_107, r295_108, r295_109, r295_111, r295_114, r295_115, r295_118, r295_120, r295_121, r295_124, r295_125, r295_126, r295_127, r295_128, r295_130, r295_132, r295_133, r295_136, r295_137, r295_138, r295_141, r295_144, ↓reduceIte, Nat.lt_irrefl, eq_self, ne_eq, not_true_eq_false, q_in, q_nar, q_narZ0, q_narZ1, q_fitI, q_fitL, q_fitZ0, q_fitZ1, q_fitO, q_fitN, q_fitA, q_fitAN, q_clL, q_lt, q_eq, q_lt0, q_0lt, q_eq0, q_eqm, q_inc, q_add1, q_add, q_mul, q_sub, ofNat_nI, true_or, or_true, true_and, and_true, if_true, if_false, Nat.le_refl, Nat.zero_le, not_true_eq_false, not_false_eq_true, Nat.reduceMod, Nat.reduceLT, Nat.reduceLeDiff, Nat.reduceAdd, Nat.reduceEqDiff, Nat.reduceBEq, Nat.reduceSub, Nat.reduceMul, mh_m, mf0, mf1, mf2, mf3, mf4, mf5, mf6, mf7, mf8, mf9, mf10, mf11, mf12, mf13, mf14, mf15, mf16, mf17, mf18, mf19, mf20, mf21, mf22, mf23, mf24, mf25, mf26, mf27, mf28, mf29, mf30, mf31, mf32, mf33, mf34, mf35, mf36, mf37, mf38, mf39, mf40, mf41, mf42, mf43, mf44, mf45, mf46, mf47, mf48, mf49, mf50, mf51, mf52, mf53, mf54, mf55, mf56, mf57, mf58, mf59, mf60, mf61, mf62, mf63, mf64, mf65, mf66, ↓z_m, z0, z1, z2, z3, z4, z5, z6, z7, z8, z9, z10, z12, z13, z14, z15, z16, z20, z24, z31, z32, z48, z50, z56, z63, z100, z108, z114, z117, z127, z200, z255, z500, z720, z1000, z1001, z4101, z6561, z8202, z12345, z16383, z16384, z65535, z1000000, z1000000000, z1103515245, n_ltT, n_ltF, n_eqT, n_eqF, m_eq, m_eq2, m_lt, m_lt2, bI_t1, bI_f1, bI_e1, bI_e0, nI_NO, q_fz0, q_fz1, q_nz0, q_nz1, q_narZ, q_fitZ, oN_n, oN_s, ↓pk_rem', pk_div', Bool.true_eq_false, Bool.false_eq_true, Nat.not_lt_zero, Nat.add_zero, Nat.zero_add, g7, aQ]
      have hP : PermN n t := ⟨ht, hinj⟩
      rw [Nat.sub_self] at hRk hlf
      have hlf0 : lf = 0 := by
        have : fct 0 = 1 := rfl
        omega
      have hrk : rkN n t = R := by
        rw [hRk, hlf0, rkP_rk hP n (Nat.le_refl n)]
        show rkC n t n = rkC n t n * 1 + 0
        omega
      obtain ⟨u1, u2, u3⟩ := unR_ok hP hrk
      exact ⟨S2, rfl, rfl, hF2, u1, u2, fun j hj => ⟨by rw [u3 j hj]; exact hrow j hj, u1.1 j hj⟩, hrest⟩
    · have g7 : S2 7 0 = nI n := by rw [hF2 7 (by rcases hr with ⟨rfl, rfl⟩ | ⟨rfl, rfl⟩ | ⟨rfl, rfl⟩ <;> decide)]; exact h7
      have e2 : n - k = n - (k + 1) + 1 := by omega
      have hfp := fct_pos (n - (k + 1))
      have hfl := fct_leN (show n - (k + 1) ≤ n by omega)
      have hfl2 := fct_leN (show n - k ≤ n by omega)
      have hdv : fct (n - k) / (n - k) = fct (n - (k + 1)) := by
        rw [e2, fct_s, ← e2]
        exact Nat.mul_div_cancel_left _ (by omega)
      have hq : lf / fct (n - (k + 1)) < n - k := by
        rw [Nat.div_lt_iff_lt_mul hfp]
        rw [e2, fct_s, ← e2] at hlf
        exact hlf
      have hv1 : ∀ i, i < k → 1 ≤ tv n t i ∧ tv n t i ≤ n := fun i hi => ⟨tv_1 (by omega) i, by have := ht i hi; unfold tv; split <;> omega⟩
      have hvinj : ∀ i j, i < k → j < k → tv n t i = tv n t j → i = j := fun i j hi hj e => by
        have a := ht i hi
        have b := ht j hj
        refine hinj i j hi hj ?_
        unfold tv at e
        by_cases c1 : t i = 0
        · by_cases c2 : t j = 0
          · rw [c1, c2]
          · rw [if_pos c1, if_neg c2] at e; omega
        · by_cases c2 : t j = 0
          · rw [if_neg c1, if_pos c2] at e; omega
          · rw [if_neg c1, if_neg c2] at e; exact e
      obtain ⟨y, hy, hyq, hy0, hyz⟩ := ucK_nth (q := lf / fct (n - (k + 1))) hv1 hvinj (by omega)
      obtain ⟨s1, s2, s3, s4⟩ := lay_step hk ht hinj hRk hlf rfl hy hyq hy0
      have hmy : (y + 1) % n < n := Nat.mod_lt _ (by omega)
      have hne25 : r ≠ 25 := fun z => by rcases hr with ⟨rfl, rfl⟩ | ⟨rfl, rfl⟩ | ⟨rfl, rfl⟩ <;> exact absurd z (by decide)
      have ih := ih (su (su S2 25 ((y + 1) % n) (nI 1)) r k (nI ((y + 1) % n))) _ (lf % fct (n - (k + 1))) (.int nM) (.int (nI (y + 1))) ((hF2.su (by simp) _ _).su (by simp) _ _) s1 s2 s3 (Nat.mod_lt _ hfp) (fun x hx1 hx2 => by
        rw [su_ne _ (fun z => hne25 z.symm), su_v, s4 x]
        by_cases c : y + 1 = x
        · rw [← c, if_pos rfl, if_pos rfl, hy0]
        · rw [if_neg c, if_neg (fun z => c ?_), Nat.add_zero]
          · exact hu x hx1 hx2
          · by_cases c1 : x = n
            · rw [c1, Nat.mod_self] at z
              by_cases c2 : y + 1 = n
              · omega
              · rw [Nat.mod_eq_of_lt (by omega)] at z; omega
            · rw [Nat.mod_eq_of_lt (by omega : x < n)] at z
              by_cases c2 : y + 1 = n
              · rw [c2, Nat.mod_self] at z; omega
              · rw [Nat.mod_eq_of_lt (by omega)] at z; omega) (fun i hi => by
        rw [su_v]
        by_cases c : i = k
        · simp only [if_pos c]
        · simp only [if_neg c]
          rw [su_ne _ hne25]
          exact hrow i (by omega)) (fun i hi => by
        rw [su_v, if_neg (by omega), su_ne _ hne25]
        exact hrest i hi)
      rw [r295_38]
      simp (disch := omega) only [i_op, o_int, o_long, o_flt, o_null, o_iadd, o_isub, o_imul, o_iand, o_ior, o_ixor, o_idiv, o_irem, o_ineg, o_ishl, o_ishr, o_iushr, o_ladd, o_lsub, o_lmul, o_land, o_lor, o_lxor, o_ldiv, o_lrem, o_lshl, o_lushr, o_lcmp, o_i2l, o_l2i, o_i2c, o_i2b, o_i2d, o_i2f, o_pop, o_dup, o_dup_x1, o_dup2, i_iload, i_lload, i_dload, i_aload, i_istore, i_astore, i_lstore, i_dstore, i_iinc, i_goto, i_ifeq, i_ifne, i_iflt, i_ifge, i_ifgt, i_ifle, i_ceq, i_cne, i_clt, i_cge, i_cgt, i_cle, i_null, i_nnull, i_aeq, i_ane, i_getf, i_putf, i_push, i_alen, i_iald, i_lald, i_aald, i_iast, i_last, i_aast, i_cast, i_inst, i_ret, i_iret, i_lret, i_aret, i_callS, i_callI, i_callV, i_callU, i_ulong, i_oinit, i_mmax, i_mmin, sto1, sto2, Value.category, List.getElem?_cons_zero, List.getElem?_cons_succ, List.drop_succ_cons, List.drop_zero, List.take_succ_cons, List.take_zero, List.reverse_cons, List.reverse_nil, List.nil_append, List.cons_append, List.length_cons, List.length_nil, List.set_cons_zero, List.set_cons_succ, List.lookup_cons, r295_0, r295_1, r295_3, r295_4, r295_7, r295_9, r295_10, r295_14, r295_15, r295_18, r295_21, r295_22, r295_25, r295_27, r295_28, r295_29, r295_32, r295_35, r295_36, r295_40, r295_41, r295_44, r295_47, r295_49, r295_50, r295_53, r295_55, r295_56, r295_57, r295_58, r295_60, r295_62, r295_64, r295_65, r295_66, r295_68, r295_70, r295_72, r295_73, r295_75, r295_76, r295_80, r295_83, r295_86, r295_88, r295_89, r295_92, r295_94, r295_95, r295_98, r295_99, r295_100, r295_103, r295_104, r295_107, r295_108, r295_109, r295_111, r295_114, r295_115, r295_118, r295_120, r295_121, r295_124, r295_125, r295_126, r295_127, r295_128, r295_130, r295_132, r295_133, r295_136, r295_137, r295_138, r295_141, r295_144, ↓reduceIte, Nat.lt_irrefl, eq_self, ne_eq, not_true_eq_false, q_in, q_nar, q_narZ0, q_narZ1, q_fitI, q_fitL, q_fitZ0, q_fitZ1, q_fitO, q_fitN, q_fitA, q_fitAN, q_clL, q_lt, q_eq, q_lt0, q_0lt, q_eq0, q_eqm, q_inc, q_add1, q_add, q_mul, q_sub, ofNat_nI, true_or, or_true, true_and, and_true, if_true, if_false, Nat.le_refl, Nat.zero_le, not_true_eq_false, not_false_eq_true, Nat.reduceMod, Nat.reduceLT, Nat.reduceLeDiff, Nat.reduceAdd, Nat.reduceEqDiff, Nat.reduceBEq, Nat.reduceSub, Nat.reduceMul, mh_m, mf0, mf1, mf2, mf3, mf4, mf5, mf6, mf7, mf8, mf9, mf10, mf11, mf12, mf13, mf14, mf15, mf16, mf17, mf18, mf19, mf20, mf21, mf22, mf23, mf24, mf25, mf26, mf27, mf28, mf29, mf30, mf31, mf32, mf33, mf34, mf35, mf36, mf37, mf38, mf39, mf40, mf41, mf42, mf43, mf44, mf45, mf46, mf47, mf48, mf49, mf50, mf51, mf52, mf53, mf54, mf55, mf56, mf57, mf58, mf59, mf60, mf61, mf62, mf63, mf64, mf65, mf66, ↓z_m, z0, z1, z2, z3, z4, z5, z6, z7, z8, z9, z10, z12, z13, z14, z15, z16, z20, z24, z31, z32, z48, z50, z56, z63, z100, z108, z114, z117, z127, z200, z255, z500, z720, z1000, z1001, z4101, z6561, z8202, z12345, z16383, z16384, z65535, z1000000, z1000000000, z1103515245, n_ltT, n_ltF, n_eqT, n_eqF, m_eq, m_eq2, m_lt, m_lt2, bI_t1, bI_f1, bI_e1, bI_e0, nI_NO, q_fz0, q_fz1, q_nz0, q_nz1, q_narZ, q_fitZ, oN_n, oN_s, ↓pk_rem', pk_div', Bool.true_eq_false, Bool.false_eq_true, Nat.not_lt_zero, Nat.add_zero, Nat.zero_add, g7, nI_l, l_div, hdv, zl0, l_eq0, ↓l_rem, lN_i]
      refine upto (x := 0) (n := y) (G := fun z => Rn (aLk T295 σ) _ 78 [.ref m, .long (lN R), jk, .ref (m + o), .long (lN (lf % fct (n - (k + 1)))), jk, .long (lN (fct (n - (k + 1)))), jk, .int (nI k), .int (nI (lf / fct (n - (k + 1)) - ucK (tv n t) k z)), .int (nI z)] [] (mh h m S2 L) 0 0) (Nat.zero_le _) ?_ (fun z _ hz ih3 => ?_)
      · rw [hyq, Nat.sub_self]
        have h25 := hu (y + 1) (by omega) (by omega)
        rw [hy0] at h25
        rw [r295_78]
        simp (disch := omega) only [i_op, o_int, o_long, o_flt, o_null, o_iadd, o_isub, o_imul, o_iand, o_ior, o_ixor, o_idiv, o_irem, o_ineg, o_ishl, o_ishr, o_iushr, o_ladd, o_lsub, o_lmul, o_land, o_lor, o_lxor, o_ldiv, o_lrem, o_lshl, o_lushr, o_lcmp, o_i2l, o_l2i, o_i2c, o_i2b, o_i2d, o_i2f, o_pop, o_dup, o_dup_x1, o_dup2, i_iload, i_lload, i_dload, i_aload, i_istore, i_astore, i_lstore, i_dstore, i_iinc, i_goto, i_ifeq, i_ifne, i_iflt, i_ifge, i_ifgt, i_ifle, i_ceq, i_cne, i_clt, i_cge, i_cgt, i_cle, i_null, i_nnull, i_aeq, i_ane, i_getf, i_putf, i_push, i_alen, i_iald, i_lald, i_aald, i_iast, i_last, i_aast, i_cast, i_inst, i_ret, i_iret, i_lret, i_aret, i_callS, i_callI, i_callV, i_callU, i_ulong, i_oinit, i_mmax, i_mmin, sto1, sto2, Value.category, List.getElem?_cons_zero, List.getElem?_cons_succ, List.drop_succ_cons, List.drop_zero, List.take_succ_cons, List.take_zero, List.reverse_cons, List.reverse_nil, List.nil_append, List.cons_append, List.length_cons, List.length_nil, List.set_cons_zero, List.set_cons_succ, List.lookup_cons, r295_0, r295_1, r295_3, r295_4, r295_7, r295_9, r295_10, r295_14, r295_15, r295_18, r295_21, r295_22, r295_25, r295_27, r295_28, r295_29, r295_32, r295_35, r295_36, r295_40, r295_41, r295_44, r295_47, r295_49, r295_50, r295_53, r295_55, r295_56, r295_57, r295_58, r295_60, r295_62, r295_64, r295_65, r295_66, r295_68, r295_70, r295_72, r295_73, r295_75, r295_76, r295_80, r295_83, r295_86, r295_88, r295_89, r295_92, r295_94, r295_95, r295_98, r295_99, r295_100, r295_103, r295_104, r295_107, r295_108, r295_109, r295_111, r295_114, r295_115, r295_118, r295_120, r295_121, r295_124, r295_125, r295_126, r295_127, r295_128, r295_130, r295_132, r295_133, r295_136, r295_137, r295_138, r295_141, r295_144, ↓reduceIte, Nat.lt_irrefl, eq_self, ne_eq, not_true_eq_false, q_in, q_nar, q_narZ0, q_narZ1, q_fitI, q_fitL, q_fitZ0, q_fitZ1, q_fitO, q_fitN, q_fitA, q_fitAN, q_clL, q_lt, q_eq, q_lt0, q_0lt, q_eq0, q_eqm, q_inc, q_add1, q_add, q_mul, q_sub, ofNat_nI, true_or, or_true, true_and, and_true, if_true, if_false, Nat.le_refl, Nat.zero_le, not_true_eq_false, not_false_eq_true, Nat.reduceMod, Nat.reduceLT, Nat.reduceLeDiff, Nat.reduceAdd, Nat.reduceEqDiff, Nat.reduceBEq, Nat.reduceSub, Nat.reduceMul, mh_m, mf0, mf1, mf2, mf3, mf4, mf5, mf6, mf7, mf8, mf9, mf10, mf11, mf12, mf13, mf14, mf15, mf16, mf17, mf18, mf19, mf20, mf21, mf22, mf23, mf24, mf25, mf26, mf27, mf28, mf29, mf30, mf31, mf32, mf33, mf34, mf35, mf36, mf37, mf38, mf39, mf40, mf41, mf42, mf43, mf44, mf45, mf46, mf47, mf48, mf49, mf50, mf51, mf52, mf53, mf54, mf55, mf56, mf57, mf58, mf59, mf60, mf61, mf62, mf63, mf64, mf65, mf66, ↓z_m, z0, z1, z2, z3, z4, z5, z6, z7, z8, z9, z10, z12, z13, z14, z15, z16, z20, z24, z31, z32, z48, z50, z56, z63, z100, z108, z114, z117, z127, z200, z255, z500, z720, z1000, z1001, z4101, z6561, z8202, z12345, z16383, z16384, z65535, z1000000, z1000000000, z1103515245, n_ltT, n_ltF, n_eqT, n_eqF, m_eq, m_eq2, m_lt, m_lt2, bI_t1, bI_f1, bI_e1, bI_e0, nI_NO, q_fz0, q_fz1, q_nz0, q_nz1, q_narZ, q_fitZ, oN_n, oN_s, ↓pk_rem', pk_div', Bool.true_eq_false, Bool.false_eq_true, Nat.not_lt_zero, Nat.add_zero, Nat.zero_add, g7, ma25, h25, z01]
        rw [r295_78]
        simp (disch := omega) only [i_op, o_int, o_long, o_flt, o_null, o_iadd, o_isub, o_imul, o_iand, o_ior, o_ixor, o_idiv, o_irem, o_ineg, o_ishl, o_ishr, o_iushr, o_ladd, o_lsub, o_lmul, o_land, o_lor, o_lxor, o_ldiv, o_lrem, o_lshl, o_lushr, o_lcmp, o_i2l, o_l2i, o_i2c, o_i2b, o_i2d, o_i2f, o_pop, o_dup, o_dup_x1, o_dup2, i_iload, i_lload, i_dload, i_aload, i_istore, i_astore, i_lstore, i_dstore, i_iinc, i_goto, i_ifeq, i_ifne, i_iflt, i_ifge, i_ifgt, i_ifle, i_ceq, i_cne, i_clt, i_cge, i_cgt, i_cle, i_null, i_nnull, i_aeq, i_ane, i_getf, i_putf, i_push, i_alen, i_iald, i_lald, i_aald, i_iast, i_last, i_aast, i_cast, i_inst, i_ret, i_iret, i_lret, i_aret, i_callS, i_callI, i_callV, i_callU, i_ulong, i_oinit, i_mmax, i_mmin, sto1, sto2, Value.category, List.getElem?_cons_zero, List.getElem?_cons_succ, List.drop_succ_cons, List.drop_zero, List.take_succ_cons, List.take_zero, List.reverse_cons, List.reverse_nil, List.nil_append, List.cons_append, List.length_cons, List.length_nil, List.set_cons_zero, List.set_cons_succ, List.lookup_cons, r295_0, r295_1, r295_3, r295_4, r295_7, r295_9, r295_10, r295_14, r295_15, r295_18, r295_21, r295_22, r295_25, r295_27, r295_28, r295_29, r295_32, r295_35, r295_36, r295_40, r295_41, r295_44, r295_47, r295_49, r295_50, r295_53, r295_55, r295_56, r295_57, r295_58, r295_60, r295_62, r295_64, r295_65, r295_66, r295_68, r295_70, r295_72, r295_73, r295_75, r295_76, r295_80, r295_83, r295_86, r295_88, r295_89, r295_92, r295_94, r295_95, r295_98, r295_99, r295_100, r295_103, r295_104, r295_107, r295_108, r295_109, r295_111, r295_114, r295_115, r295_118, r295_120, r295_121, r295_124, r295_125, r295_126, r295_127, r295_128, r295_130, r295_132, r295_133, r295_136, r295_137, r295_138, r295_141, r295_144, ↓reduceIte, Nat.lt_irrefl, eq_self, ne_eq, not_true_eq_false, q_in, q_nar, q_narZ0, q_narZ1, q_fitI, q_fitL, q_fitZ0, q_fitZ1, q_fitO, q_fitN, q_fitA, q_fitAN, q_clL, q_lt, q_eq, q_lt0, q_0lt, q_eq0, q_eqm, q_inc, q_add1, q_add, q_mul, q_sub, ofNat_nI, true_or, or_true, true_and, and_true, if_true, if_false, Nat.le_refl, Nat.zero_le, not_true_eq_false, not_false_eq_true, Nat.reduceMod, Nat.reduceLT, Nat.reduceLeDiff, Nat.reduceAdd, Nat.reduceEqDiff, Nat.reduceBEq, Nat.reduceSub, Nat.reduceMul, mh_m, mf0, mf1, mf2, mf3, mf4, mf5, mf6, mf7, mf8, mf9, mf10, mf11, mf12, mf13, mf14, mf15, mf16, mf17, mf18, mf19, mf20, mf21, mf22, mf23, mf24, mf25, mf26, mf27, mf28, mf29, mf30, mf31, mf32, mf33, mf34, mf35, mf36, mf37, mf38, mf39, mf40, mf41, mf42, mf43, mf44, mf45, mf46, mf47, mf48, mf49, mf50, mf51, mf52, mf53, mf54, mf55, mf56, mf57, mf58, mf59, mf60, mf61, mf62, mf63, mf64, mf65, mf66, ↓z_m, z0, z1, z2, z3, z4, z5, z6, z7, z8, z9, z10, z12, z13, z14, z15, z16, z20, z24, z31, z32, z48, z50, z56, z63, z100, z108, z114, z117, z127, z200, z255, z500, z720, z1000, z1001, z4101, z6561, z8202, z12345, z16383, z16384, z65535, z1000000, z1000000000, z1103515245, n_ltT, n_ltF, n_eqT, n_eqF, m_eq, m_eq2, m_lt, m_lt2, bI_t1, bI_f1, bI_e1, bI_e0, nI_NO, q_fz0, q_fz1, q_nz0, q_nz1, q_narZ, q_fitZ, oN_n, oN_s, ↓pk_rem', pk_div', Bool.true_eq_false, Bool.false_eq_true, Nat.not_lt_zero, Nat.add_zero, Nat.zero_add, g7, ma25, mp25, rg hr, rp hr, su_ne S2 (show (7 : Nat) ≠ 25 by decide)]
        exact ih
      · have h25 := hu (z + 1) (by omega) (by omega)
        have hmz : (z + 1) % n < n := Nat.mod_lt _ (by omega)
        have hle := hyz (z + 1) hz
        have hle0 := hyz z (by omega)
        have hst := cnt_step (x := z + 1) hvinj
        rw [ucK_s] at ih3 hle
        rw [r295_78]
        by_cases c : eqc (tv n t) (z + 1) k = 0
        · rw [c] at h25 ih3 hle
          rw [show lf / fct (n - (k + 1)) - (ucK (tv n t) k z + (1 - 0)) = lf / fct (n - (k + 1)) - ucK (tv n t) k z - 1 by omega] at ih3
          simp (disch := omega) only [i_op, o_int, o_long, o_flt, o_null, o_iadd, o_isub, o_imul, o_iand, o_ior, o_ixor, o_idiv, o_irem, o_ineg, o_ishl, o_ishr, o_iushr, o_ladd, o_lsub, o_lmul, o_land, o_lor, o_lxor, o_ldiv, o_lrem, o_lshl, o_lushr, o_lcmp, o_i2l, o_l2i, o_i2c, o_i2b, o_i2d, o_i2f, o_pop, o_dup, o_dup_x1, o_dup2, i_iload, i_lload, i_dload, i_aload, i_istore, i_astore, i_lstore, i_dstore, i_iinc, i_goto, i_ifeq, i_ifne, i_iflt, i_ifge, i_ifgt, i_ifle, i_ceq, i_cne, i_clt, i_cge, i_cgt, i_cle, i_null, i_nnull, i_aeq, i_ane, i_getf, i_putf, i_push, i_alen, i_iald, i_lald, i_aald, i_iast, i_last, i_aast, i_cast, i_inst, i_ret, i_iret, i_lret, i_aret, i_callS, i_callI, i_callV, i_callU, i_ulong, i_oinit, i_mmax, i_mmin, sto1, sto2, Value.category, List.getElem?_cons_zero, List.getElem?_cons_succ, List.drop_succ_cons, List.drop_zero, List.take_succ_cons, List.take_zero, List.reverse_cons, List.reverse_nil, List.nil_append, List.cons_append, List.length_cons, List.length_nil, List.set_cons_zero, List.set_cons_succ, List.lookup_cons, r295_0, r295_1, r295_3, r295_4, r295_7, r295_9, r295_10, r295_14, r295_15, r295_18, r295_21, r295_22, r295_25, r295_27, r295_28, r295_29, r295_32, r295_35, r295_36, r295_40, r295_41, r295_44, r295_47, r295_49, r295_50, r295_53, r295_55, r295_56, r295_57, r295_58, r295_60, r295_62, r295_64, r295_65, r295_66, r295_68, r295_70, r295_72, r295_73, r295_75, r295_76, r295_80, r295_83, r295_86, r295_88, r295_89, r295_92, r295_94, r295_95, r295_98, r295_99, r295_100, r295_103, r295_104, r295_107, r295_108, r295_109, r295_111, r295_114, r295_115, r295_118, r295_120, r295_121, r295_124, r295_125, r295_126, r295_127, r295_128, r295_130, r295_132, r295_133, r295_136, r295_137, r295_138, r295_141, r295_144, ↓reduceIte, Nat.lt_irrefl, eq_self, ne_eq, not_true_eq_false, q_in, q_nar, q_narZ0, q_narZ1, q_fitI, q_fitL, q_fitZ0, q_fitZ1, q_fitO, q_fitN, q_fitA, q_fitAN, q_clL, q_lt, q_eq, q_lt0, q_0lt, q_eq0, q_eqm, q_inc, q_add1, q_add, q_mul, q_sub, ofNat_nI, true_or, or_true, true_and, and_true, if_true, if_false, Nat.le_refl, Nat.zero_le, not_true_eq_false, not_false_eq_true, Nat.reduceMod, Nat.reduceLT, Nat.reduceLeDiff, Nat.reduceAdd, Nat.reduceEqDiff, Nat.reduceBEq, Nat.reduceSub, Nat.reduceMul, mh_m, mf0, mf1, mf2, mf3, mf4, mf5, mf6, mf7, mf8, mf9, mf10, mf11, mf12, mf13, mf14, mf15, mf16, mf17, mf18, mf19, mf20, mf21, mf22, mf23, mf24, mf25, mf26, mf27, mf28, mf29, mf30, mf31, mf32, mf33, mf34, mf35, mf36, mf37, mf38, mf39, mf40, mf41, mf42, mf43, mf44, mf45, mf46, mf47, mf48, mf49, mf50, mf51, mf52, mf53, mf54, mf55, mf56, mf57, mf58, mf59, mf60, mf61, mf62, mf63, mf64, mf65, mf66, ↓z_m, z0, z1, z2, z3, z4, z5, z6, z7, z8, z9, z10, z12, z13, z14, z15, z16, z20, z24, z31, z32, z48, z50, z56, z63, z100, z108, z114, z117, z127, z200, z255, z500, z720, z1000, z1001, z4101, z6561, z8202, z12345, z16383, z16384, z65535, z1000000, z1000000000, z1103515245, n_ltT, n_ltF, n_eqT, n_eqF, m_eq, m_eq2, m_lt, m_lt2, bI_t1, bI_f1, bI_e1, bI_e0, nI_NO, q_fz0, q_fz1, q_nz0, q_nz1, q_narZ, q_fitZ, oN_n, oN_s, ↓pk_rem', pk_div', Bool.true_eq_false, Bool.false_eq_true, Nat.not_lt_zero, Nat.add_zero, Nat.zero_add, g7, ma25, h25]
          exact ih3
        · have c1 : eqc (tv n t) (z + 1) k = 1 := by omega
          rw [c1] at h25 ih3 hle
          simp only [Nat.sub_self, Nat.add_zero] at ih3
          simp (disch := omega) only [i_op, o_int, o_long, o_flt, o_null, o_iadd, o_isub, o_imul, o_iand, o_ior, o_ixor, o_idiv, o_irem, o_ineg, o_ishl, o_ishr, o_iushr, o_ladd, o_lsub, o_lmul, o_land, o_lor, o_lxor, o_ldiv, o_lrem, o_lshl, o_lushr, o_lcmp, o_i2l, o_l2i, o_i2c, o_i2b, o_i2d, o_i2f, o_pop, o_dup, o_dup_x1, o_dup2, i_iload, i_lload, i_dload, i_aload, i_istore, i_astore, i_lstore, i_dstore, i_iinc, i_goto, i_ifeq, i_ifne, i_iflt, i_ifge, i_ifgt, i_ifle, i_ceq, i_cne, i_clt, i_cge, i_cgt, i_cle, i_null, i_nnull, i_aeq, i_ane, i_getf, i_putf, i_push, i_alen, i_iald, i_lald, i_aald, i_iast, i_last, i_aast, i_cast, i_inst, i_ret, i_iret, i_lret, i_aret, i_callS, i_callI, i_callV, i_callU, i_ulong, i_oinit, i_mmax, i_mmin, sto1, sto2, Value.category, List.getElem?_cons_zero, List.getElem?_cons_succ, List.drop_succ_cons, List.drop_zero, List.take_succ_cons, List.take_zero, List.reverse_cons, List.reverse_nil, List.nil_append, List.cons_append, List.length_cons, List.length_nil, List.set_cons_zero, List.set_cons_succ, List.lookup_cons, r295_0, r295_1, r295_3, r295_4, r295_7, r295_9, r295_10, r295_14, r295_15, r295_18, r295_21, r295_22, r295_25, r295_27, r295_28, r295_29, r295_32, r295_35, r295_36, r295_40, r295_41, r295_44, r295_47, r295_49, r295_50, r295_53, r295_55, r295_56, r295_57, r295_58, r295_60, r295_62, r295_64, r295_65, r295_66, r295_68, r295_70, r295_72, r295_73, r295_75, r295_76, r295_80, r295_83, r295_86, r295_88, r295_89, r295_92, r295_94, r295_95, r295_98, r295_99, r295_100, r295_103, r295_104, r295_107, r295_108, r295_109, r295_111, r295_114, r295_115, r295_118, r295_120, r295_121, r295_124, r295_125, r295_126, r295_127, r295_128, r295_130, r295_132, r295_133, r295_136, r295_137, r295_138, r295_141, r295_144, ↓reduceIte, Nat.lt_irrefl, eq_self, ne_eq, not_true_eq_false, q_in, q_nar, q_narZ0, q_narZ1, q_fitI, q_fitL, q_fitZ0, q_fitZ1, q_fitO, q_fitN, q_fitA, q_fitAN, q_clL, q_lt, q_eq, q_lt0, q_0lt, q_eq0, q_eqm, q_inc, q_add1, q_add, q_mul, q_sub, ofNat_nI, true_or, or_true, true_and, and_true, if_true, if_false, Nat.le_refl, Nat.zero_le, not_true_eq_false, not_false_eq_true, Nat.reduceMod, Nat.reduceLT, Nat.reduceLeDiff, Nat.reduceAdd, Nat.reduceEqDiff, Nat.reduceBEq, Nat.reduceSub, Nat.reduceMul, mh_m, mf0, mf1, mf2, mf3, mf4, mf5, mf6, mf7, mf8, mf9, mf10, mf11, mf12, mf13, mf14, mf15, mf16, mf17, mf18, mf19, mf20, mf21, mf22, mf23, mf24, mf25, mf26, mf27, mf28, mf29, mf30, mf31, mf32, mf33, mf34, mf35, mf36, mf37, mf38, mf39, mf40, mf41, mf42, mf43, mf44, mf45, mf46, mf47, mf48, mf49, mf50, mf51, mf52, mf53, mf54, mf55, mf56, mf57, mf58, mf59, mf60, mf61, mf62, mf63, mf64, mf65, mf66, ↓z_m, z0, z1, z2, z3, z4, z5, z6, z7, z8, z9, z10, z12, z13, z14, z15, z16, z20, z24, z31, z32, z48, z50, z56, z63, z100, z108, z114, z117, z127, z200, z255, z500, z720, z1000, z1001, z4101, z6561, z8202, z12345, z16383, z16384, z65535, z1000000, z1000000000, z1103515245, n_ltT, n_ltF, n_eqT, n_eqF, m_eq, m_eq2, m_lt, m_lt2, bI_t1, bI_f1, bI_e1, bI_e0, nI_NO, q_fz0, q_fz1, q_nz0, q_nz1, q_narZ, q_fitZ, oN_n, oN_s, ↓pk_rem', pk_div', Bool.true_eq_false, Bool.false_eq_true, Nat.not_lt_zero, Nat.add_zero, Nat.zero_add, g7, ma25, h25, Nat.sub_zero]
          exact ih3
  · have g7 : S' 7 0 = nI n := by rw [hF 7 (by rcases hr with ⟨rfl, rfl⟩ | ⟨rfl, rfl⟩ | ⟨rfl, rfl⟩ <;> decide)]; exact h7
    have ih := ih (su S' 25 x (nI 0)) (hF.su (by simp) _ _) (by rw [su_ne _ (fun z => by rcases hr with ⟨rfl, rfl⟩ | ⟨rfl, rfl⟩ | ⟨rfl, rfl⟩ <;> exact absurd z (by decide))]; exact hr0) (fun j hj => by
      rw [su_v]
      by_cases e : j = x
      · rw [if_pos e]
      · rw [if_neg e]
        exact h25 j (by omega))
    rw [r295_12]
    simp (disch := omega) only [i_op, o_int, o_long, o_flt, o_null, o_iadd, o_isub, o_imul, o_iand, o_ior, o_ixor, o_idiv, o_irem, o_ineg, o_ishl, o_ishr, o_iushr, o_ladd, o_lsub, o_lmul, o_land, o_lor, o_lxor, o_ldiv, o_lrem, o_lshl, o_lushr, o_lcmp, o_i2l, o_l2i, o_i2c, o_i2b, o_i2d, o_i2f, o_pop, o_dup, o_dup_x1, o_dup2, i_iload, i_lload, i_dload, i_aload, i_istore, i_astore, i_lstore, i_dstore, i_iinc, i_goto, i_ifeq, i_ifne, i_iflt, i_ifge, i_ifgt, i_ifle, i_ceq, i_cne, i_clt, i_cge, i_cgt, i_cle, i_null, i_nnull, i_aeq, i_ane, i_getf, i_putf, i_push, i_alen, i_iald, i_lald, i_aald, i_iast, i_last, i_aast, i_cast, i_inst, i_ret, i_iret, i_lret, i_aret, i_callS, i_callI, i_callV, i_callU, i_ulong, i_oinit, i_mmax, i_mmin, sto1, sto2, Value.category, List.getElem?_cons_zero, List.getElem?_cons_succ, List.drop_succ_cons, List.drop_zero, List.take_succ_cons, List.take_zero, List.reverse_cons, List.reverse_nil, List.nil_append, List.cons_append, List.length_cons, List.length_nil, List.set_cons_zero, List.set_cons_succ, List.lookup_cons, r295_0, r295_1, r295_3, r295_4, r295_7, r295_9, r295_10, r295_14, r295_15, r295_18, r295_21, r295_22, r295_25, r295_27, r295_28, r295_29, r295_32, r295_35, r295_36, r295_40, r295_41, r295_44, r295_47, r295_49, r295_50, r295_53, r295_55, r295_56, r295_57, r295_58, r295_60, r295_62, r295_64, r295_65, r295_66, r295_68, r295_70, r295_72, r295_73, r295_75, r295_76, r295_78, r295_80, r295_83, r295_86, r295_88, r295_89, r295_92, r295_94, r295_95, r295_98, r295_99, r295_100, r295_103, r295_104, r295_107, r295_108, r295_109, r295_111, r295_114, r295_115, r295_118, r295_120, r295_121, r295_124, r295_125, r295_126, r295_127, r295_128, r295_130, r295_132, r295_133, r295_136, r295_137, r295_138, r295_141, r295_144, ↓reduceIte, Nat.lt_irrefl, eq_self, ne_eq, not_true_eq_false, q_in, q_nar, q_narZ0, q_narZ1, q_fitI, q_fitL, q_fitZ0, q_fitZ1, q_fitO, q_fitN, q_fitA, q_fitAN, q_clL, q_lt, q_eq, q_lt0, q_0lt, q_eq0, q_eqm, q_inc, q_add1, q_add, q_mul, q_sub, ofNat_nI, true_or, or_true, true_and, and_true, if_true, if_false, Nat.le_refl, Nat.zero_le, not_true_eq_false, not_false_eq_true, Nat.reduceMod, Nat.reduceLT, Nat.reduceLeDiff, Nat.reduceAdd, Nat.reduceEqDiff, Nat.reduceBEq, Nat.reduceSub, Nat.reduceMul, mh_m, mf0, mf1, mf2, mf3, mf4, mf5, mf6, mf7, mf8, mf9, mf10, mf11, mf12, mf13, mf14, mf15, mf16, mf17, mf18, mf19, mf20, mf21, mf22, mf23, mf24, mf25, mf26, mf27, mf28, mf29, mf30, mf31, mf32, mf33, mf34, mf35, mf36, mf37, mf38, mf39, mf40, mf41, mf42, mf43, mf44, mf45, mf46, mf47, mf48, mf49, mf50, mf51, mf52, mf53, mf54, mf55, mf56, mf57, mf58, mf59, mf60, mf61, mf62, mf63, mf64, mf65, mf66, ↓z_m, z0, z1, z2, z3, z4, z5, z6, z7, z8, z9, z10, z12, z13, z14, z15, z16, z20, z24, z31, z32, z48, z50, z56, z63, z100, z108, z114, z117, z127, z200, z255, z500, z720, z1000, z1001, z4101, z6561, z8202, z12345, z16383, z16384, z65535, z1000000, z1000000000, z1103515245, n_ltT, n_ltF, n_eqT, n_eqF, m_eq, m_eq2, m_lt, m_lt2, bI_t1, bI_f1, bI_e1, bI_e0, nI_NO, q_fz0, q_fz1, q_nz0, q_nz1, q_narZ, q_fitZ, oN_n, oN_s, ↓pk_rem', pk_div', Bool.true_eq_false, Bool.false_eq_true, Nat.not_lt_zero, Nat.add_zero, Nat.zero_add, g7, ma25, mp25]
    exact ih
theorem unR_ex {n R : Nat} (hR : R < fct n) : ∀ k, k ≤ n → ∃ (t : Nat → Nat) (lf : Nat), (∀ i, i < k → t i < n) ∧ (∀ i j, i < k → j < k → t i = t j → i = j) ∧ R = rkP n t k * fct (n - k) + lf ∧ lf < fct (n - k) := by
  intro k
  induction k with
  | zero => exact fun _ => ⟨fun i => i, R, fun i hi => absurd hi (by omega), fun i j hi => absurd hi (by omega), by simp [rkP], hR⟩
  | succ k ih =>
    intro hk
    obtain ⟨t, lf, ht, hinj, hRk, hlf⟩ := ih (by omega)
    have hfp := fct_pos (n - (k + 1))
    have hq : lf / fct (n - (k + 1)) < n - k := by
      have e2 : n - k = n - (k + 1) + 1 := by omega
      rw [Nat.div_lt_iff_lt_mul hfp]
      rw [e2, fct_s, ← e2] at hlf
      exact hlf
    have hv1 : ∀ i, i < k → 1 ≤ tv n t i ∧ tv n t i ≤ n := fun i hi => ⟨tv_1 (by omega) i, by have := ht i hi; unfold tv; split <;> omega⟩
    have hvinj : ∀ i j, i < k → j < k → tv n t i = tv n t j → i = j := fun i j hi hj e => by
      have a := ht i hi
      have b := ht j hj
      refine hinj i j hi hj ?_
      unfold tv at e
      by_cases c1 : t i = 0
      · by_cases c2 : t j = 0
        · rw [c1, c2]
        · rw [if_pos c1, if_neg c2] at e; omega
      · by_cases c2 : t j = 0
        · rw [if_neg c1, if_pos c2] at e; omega
        · rw [if_neg c1, if_neg c2] at e; exact e
    obtain ⟨y, hy, hyq, hy0, _⟩ := ucK_nth (q := lf / fct (n - (k + 1))) hv1 hvinj (by omega)
    obtain ⟨s1, s2, s3, _⟩ := lay_step hk ht hinj hRk hlf rfl hy hyq hy0
    exact ⟨_, _, s1, s2, s3, Nat.mod_lt _ hfp⟩
theorem unR_p {n R : Nat} (hR : R < fct n) : PermN n (unR n R) ∧ rkN n (unR n R) = R := by
  obtain ⟨t, lf, ht, hinj, hRk, hlf⟩ := unR_ex hR n (Nat.le_refl n)
  have hP : PermN n t := ⟨ht, hinj⟩
  rw [Nat.sub_self] at hRk hlf
  have hlf0 : lf = 0 := by
    have : fct 0 = 1 := rfl
    omega
  have hrk : rkN n t = R := by
    rw [hRk, hlf0, rkP_rk hP n (Nat.le_refl n)]
    show rkC n t n = rkC n t n * 1 + 0
    omega
  exact ⟨(unR_ok hP hrk).1, (unR_ok hP hrk).2.1⟩
