/-! how a table is walked -/
set_option maxRecDepth 100000
theorem CL_in {σ : Nat → Value} {d y mc ms L : Nat} {as : List Value} {h : aH} {P : aO → aH → Prop} {T : aT} (hT : aTab σ y = aLk T σ) (hL : mL y = L) (h1 : (lay as).length ≤ L) (h2 : Rn (aLk T σ) (CL σ d, d + 1, mc, ms, fun o h' k s => k ≤ mc ∧ s ≤ ms ∧ P o h') 0 (lays as L) [] h 0 0) : CL σ (d + 1) y as h mc ms P := by
  refine ⟨by rw [hL]; exact h1, ?_⟩
  rw [hT, hL]
  exact h2
/-- a value is handed back, nothing is written -/
def aPure (v : Value) (h : aH) : aO → aH → Prop := fun o h' => o = .inl (some v) ∧ h' = h
theorem call_any {y n mc ms : Nat} {hs : List (String × Option Nat)} {as rest ls st : List Value} {g : aG} {X : aX} {h : aH} {k s : Nat} {P : aO → aH → Prop} (hc : g.1 y as h mc ms P) (hr : rest.length ≤ 4) (h1 : k + mc ≤ g.2.2.1) (h2 : s + ms ≤ g.2.2.2.1) (hk : ∀ o h', P o h' → aRes g X hs n ls rest (k + mc) (s + ms) o h') : aCall y hs n as rest g X ls st h k s := ⟨hr, mc, ms, P, hc, h1, h2, hk⟩
theorem call_pure {y n mc ms : Nat} {hs : List (String × Option Nat)} {as rest ls st : List Value} {g : aG} {X : aX} {h : aH} {k s : Nat} {v : Value} (hc : g.1 y as h mc ms (aPure v h)) (hr : rest.length ≤ 4) (h1 : k + mc ≤ g.2.2.1) (h2 : s + ms ≤ g.2.2.2.1) (hk : X n ls (v :: rest) h (k + mc) (s + ms)) : aCall y hs n as rest g X ls st h k s :=
  call_any hc hr h1 h2 fun o h' q => by
    obtain ⟨rfl, rfl⟩ := q
    exact hk
theorem nI_vin {j m : Nat} (h : j < m) (hm : m < 2 ^ 31) : vp_in (nI j) m := vp_in_nI h hm
theorem ofNat_nI (n : Nat) : Int32.ofNat n = nI n := rfl
theorem zero_nI : (0 : Int32) = nI 0 := nI_0.symm
theorem one_nI : (1 : Int32) = nI 1 := by decide
theorem q_in {j m : Nat} (h : j < m) (hm : m < 2 ^ 31) : vp_in (nI j) m ↔ True := ⟨fun _ => trivial, fun _ => vp_in_nI h hm⟩
theorem q_nar (x : Int32) : narrow .int (.int x) = .int x ↔ True := ⟨fun _ => trivial, fun _ => rfl⟩
theorem q_narZ0 : narrow .boolean (.int 0) = .int 0 ↔ True := ⟨fun _ => trivial, fun _ => rfl⟩
theorem q_narZ1 : narrow .boolean (.int 1) = .int 1 ↔ True := ⟨fun _ => trivial, fun _ => rfl⟩
theorem q_fitI (x : Int32) : aFit .int (.int x) ↔ True := ⟨fun _ => trivial, fun _ => ⟨rfl, rfl⟩⟩
theorem q_fitL (x : Int64) : aFit .long (.long x) ↔ True := ⟨fun _ => trivial, fun _ => ⟨rfl, rfl⟩⟩
theorem q_fitZ0 : aFit .boolean (.int 0) ↔ True := ⟨fun _ => trivial, fun _ => ⟨rfl, rfl⟩⟩
theorem q_fitZ1 : aFit .boolean (.int 1) ↔ True := ⟨fun _ => trivial, fun _ => ⟨rfl, rfl⟩⟩
theorem q_fitO (n : String) (a : Nat) : aFit (.object n) (.ref a) ↔ True := ⟨fun _ => trivial, fun _ => ⟨rfl, rfl⟩⟩
theorem q_fitN (n : String) : aFit (.object n) .null ↔ True := ⟨fun _ => trivial, fun _ => ⟨rfl, rfl⟩⟩
theorem q_fitA (t : FieldType) (a : Nat) : aFit (.array t) (.ref a) ↔ True := ⟨fun _ => trivial, fun _ => ⟨rfl, rfl⟩⟩
theorem q_fitAN (t : FieldType) : aFit (.array t) .null ↔ True := ⟨fun _ => trivial, fun _ => ⟨rfl, rfl⟩⟩
theorem q_clL {n : Nat} (h : n < 2 ^ 31) : (nI n).toNatClampNeg = n := nI_clamp h
theorem q_lt {a b : Nat} (ha : a < 2 ^ 31) (hb : b < 2 ^ 31) : nI a < nI b ↔ a < b := nI_ltI ha hb
theorem q_eq {a b : Nat} (ha : a < 2 ^ 31) (hb : b < 2 ^ 31) : nI a = nI b ↔ a = b := nI_eq ha hb
theorem q_lt0 {a : Nat} (ha : a < 2 ^ 31) : nI a < 0 ↔ False := by
  rw [zero_nI, q_lt ha (by omega)]
  exact ⟨fun h => by omega, fun h => h.elim⟩
theorem q_0lt {a : Nat} (ha : a < 2 ^ 31) : 0 < nI a ↔ 0 < a := by
  rw [zero_nI, q_lt (by omega) ha]
theorem q_eq0 {a : Nat} (ha : a < 2 ^ 31) : nI a = 0 ↔ a = 0 := by
  rw [zero_nI, q_eq ha (by omega)]
theorem q_eqm {a : Nat} (ha : a < 2 ^ 31) : nI a = -1 ↔ False := by
  refine ⟨fun h => ?_, fun h => h.elim⟩
  have h1 : (nI a).toInt = (-1 : Int32).toInt := by rw [h]
  rw [nI_toInt ha] at h1
  have h2 : (-1 : Int32).toInt = -1 := by decide
  have h3 : (a : Int) = -1 := h1.trans h2
  omega
theorem q_add1 (a : Nat) : nI a + 1 = nI (a + 1) := nI_1 a
theorem q_add (a b : Nat) : nI a + nI b = nI (a + b) := nI_add a b
theorem q_mul (a b : Nat) : nI a * nI b = nI (a * b) := pk_mul a b
theorem q_sub {a b : Nat} (h : b ≤ a) : nI a - nI b = nI (a - b) := pk_sub h
theorem q_inc (a : Nat) : nI a + Int32.ofInt 1 = nI (a + 1) := nI_1 a
theorem q_tt (p : Prop) : (True ∨ p) ↔ True := by simp
/-- the value of a tile: the gap's is the greatest -/
def tv (n : Nat) (t : Nat → Nat) (i : Nat) : Nat := if t i = 0 then n else t i
/-- how many of the places behind o and before k hold less -/
def lessC (v : Nat → Nat) (o : Nat) : Nat → Nat
  | 0 => 0
  | k + 1 => lessC v o k + if o < k ∧ v k < v o then 1 else 0
theorem lessC_0 (v : Nat → Nat) (o : Nat) : ∀ k, k ≤ o + 1 → lessC v o k = 0 := by
  intro k
  induction k with
  | zero => intro _; rfl
  | succ k ih =>
    intro h
    unfold lessC
    rw [ih (by omega), if_neg (by omega)]
theorem lessC_le (v : Nat → Nat) (o : Nat) : ∀ k, lessC v o k ≤ k := by
  intro k
  induction k with
  | zero => exact Nat.le_refl _
  | succ k ih =>
    unfold lessC
    split <;> omega
/-- the rank's first k steps -/
def rkC (n : Nat) (t : Nat → Nat) : Nat → Nat
  | 0 => 0
  | k + 1 => rkC n t k * (n - k) + lessC (tv n t) k n
def rkN (n : Nat) (t : Nat → Nat) : Nat := rkC n t n
/-- a row of tiles lies in an array of ints -/
def Row (h : aH) (a n : Nat) (t : Nat → Nat) : Prop := ∃ F : Nat → Int32, h.2 a = some (.inl (0, n, .inl F)) ∧ ∀ j, j < n → F j = nI (t j) ∧ t j < n
/-- Lie: shape at sh, n tiles t, the gap at g -/
def IsLie (h : aH) (a sh n : Nat) (t : Nat → Nat) (g : Nat) : Prop := n ≤ 16 ∧ g < n ∧ t g = 0 ∧ ∃ ta : Nat, h.2 a = some (.inr (18, [.ref sh, .ref ta, .int (nI g)])) ∧ Row h ta n t
set_option maxHeartbeats 4000000 in
/-- Lie.valueAt -/
theorem c_valueAt {σ : Nat → Value} {d a n i sh g : Nat} {t : Nat → Nat} {h : aH} (hL : IsLie h a sh n t g) (hi : i < n) :
    CL σ (d + 1) 203 [.ref a, .int (nI i)] h 0 0 (aPure (.int (nI (tv n t i))) h) := by
  obtain ⟨hn, hg, hg0, ta, ha, F, ht, hF⟩ := hL
  refine CL_in (tb203 _) ml203 (by simp [lay]) ?_
  have h1 := (hF i hi).2
  have h2 := (hF i hi).1
  by_cases h0 : t i = 0
  · simp (disch := omega) only [lays, lay, List.replicate, List.append_nil, i_op, o_int, o_long, o_flt, o_null, o_iadd, o_isub, o_imul, o_iand, o_ior, o_ixor, o_idiv, o_irem, o_ineg, o_ishl, o_ishr, o_iushr, o_ladd, o_lsub, o_lmul, o_land, o_lor, o_lxor, o_ldiv, o_lrem, o_lshl, o_lushr, o_lcmp, o_i2l, o_l2i, o_i2c, o_i2b, o_i2d, o_i2f, o_pop, o_dup, o_dup_x1, o_dup2, i_iload, i_lload, i_dload, i_aload, i_istore, i_astore, i_lstore, i_dstore, i_iinc, i_goto, i_ifeq, i_ifne, i_iflt, i_ifge, i_ifgt, i_ifle, i_ceq, i_cne, i_clt, i_cge, i_cgt, i_cle, i_null, i_nnull, i_aeq, i_ane, i_getf, i_putf, i_push, i_alen, i_iald, i_lald, i_aald, i_iast, i_last, i_aast, i_cast, i_inst, i_ret, i_iret, i_lret, i_aret, i_callS, i_callI, i_callV, i_callU, i_ulong, i_oinit, i_mmax, i_mmin, sto1, sto2, Value.category, List.getElem?_cons_zero, List.getElem?_cons_succ, List.drop_succ_cons, List.drop_zero, List.take_succ_cons, List.take_zero, List.reverse_cons, List.reverse_nil, List.nil_append, List.cons_append, List.length_cons, List.length_nil, List.set_cons_zero, List.set_cons_succ, List.lookup_cons, r203_0, r203_1, r203_4, r203_5, r203_6, r203_9, r203_10, r203_13, r203_14, r203_17, r203_18, r203_21, r203_22, r203_23, ↓reduceIte, Nat.lt_irrefl, eq_self, ne_eq, not_true_eq_false, q_in, q_nar, q_narZ0, q_narZ1, q_fitI, q_fitL, q_fitZ0, q_fitZ1, q_fitO, q_fitN, q_fitA, q_fitAN, q_clL, q_lt, q_eq, q_lt0, q_0lt, q_eq0, q_eqm, q_inc, q_add1, q_add, q_mul, q_sub, ofNat_nI, true_or, or_true, true_and, and_true, if_true, if_false, Nat.le_refl, Nat.zero_le, not_true_eq_false, not_false_eq_true, Nat.reduceMod, Nat.reduceLT, Nat.reduceLeDiff, Nat.reduceAdd, Nat.reduceEqDiff, Nat.reduceBEq, Nat.reduceSub, Nat.reduceMul, ha, ht, aPure, aQ, h2, tv, h0]
  · simp (disch := omega) only [lays, lay, List.replicate, List.append_nil, i_op, o_int, o_long, o_flt, o_null, o_iadd, o_isub, o_imul, o_iand, o_ior, o_ixor, o_idiv, o_irem, o_ineg, o_ishl, o_ishr, o_iushr, o_ladd, o_lsub, o_lmul, o_land, o_lor, o_lxor, o_ldiv, o_lrem, o_lshl, o_lushr, o_lcmp, o_i2l, o_l2i, o_i2c, o_i2b, o_i2d, o_i2f, o_pop, o_dup, o_dup_x1, o_dup2, i_iload, i_lload, i_dload, i_aload, i_istore, i_astore, i_lstore, i_dstore, i_iinc, i_goto, i_ifeq, i_ifne, i_iflt, i_ifge, i_ifgt, i_ifle, i_ceq, i_cne, i_clt, i_cge, i_cgt, i_cle, i_null, i_nnull, i_aeq, i_ane, i_getf, i_putf, i_push, i_alen, i_iald, i_lald, i_aald, i_iast, i_last, i_aast, i_cast, i_inst, i_ret, i_iret, i_lret, i_aret, i_callS, i_callI, i_callV, i_callU, i_ulong, i_oinit, i_mmax, i_mmin, sto1, sto2, Value.category, List.getElem?_cons_zero, List.getElem?_cons_succ, List.drop_succ_cons, List.drop_zero, List.take_succ_cons, List.take_zero, List.reverse_cons, List.reverse_nil, List.nil_append, List.cons_append, List.length_cons, List.length_nil, List.set_cons_zero, List.set_cons_succ, List.lookup_cons, r203_0, r203_1, r203_4, r203_5, r203_6, r203_9, r203_10, r203_13, r203_14, r203_17, r203_18, r203_21, r203_22, r203_23, ↓reduceIte, Nat.lt_irrefl, eq_self, ne_eq, not_true_eq_false, q_in, q_nar, q_narZ0, q_narZ1, q_fitI, q_fitL, q_fitZ0, q_fitZ1, q_fitO, q_fitN, q_fitA, q_fitAN, q_clL, q_lt, q_eq, q_lt0, q_0lt, q_eq0, q_eqm, q_inc, q_add1, q_add, q_mul, q_sub, ofNat_nI, true_or, or_true, true_and, and_true, if_true, if_false, Nat.le_refl, Nat.zero_le, not_true_eq_false, not_false_eq_true, Nat.reduceMod, Nat.reduceLT, Nat.reduceLeDiff, Nat.reduceAdd, Nat.reduceEqDiff, Nat.reduceBEq, Nat.reduceSub, Nat.reduceMul, ha, ht, aPure, aQ, h2, tv, h0]
theorem lessC_s (v : Nat → Nat) (o k : Nat) : lessC v o (k + 1) = lessC v o k + if o < k ∧ v k < v o then 1 else 0 := rfl
theorem tv_lt {n i : Nat} {t : Nat → Nat} (hn : n ≤ 16) (h : ∀ j, j < n → t j < n) (hi : i < n) : tv n t i < 17 := by
  have := h i hi
  unfold tv
  split <;> omega
theorem IsLie.lt {h : aH} {a sh n g : Nat} {t : Nat → Nat} (hL : IsLie h a sh n t g) : ∀ j, j < n → t j < n := by
  obtain ⟨hn, hg, hg0, ta, ha, F, ht, hF⟩ := hL
  exact fun j hj => (hF j hj).2
theorem l_lessBehind {σ : Nat → Value} {d d' mc ms a n i sh g : Nat} {t : Nat → Nat} {h : aH} {k s : Nat} {Q : aO → aH → Nat → Nat → Prop} (hL : IsLie h a sh n t g) (hi : i < n) (hk : k ≤ mc) (hs : s ≤ ms)
    (hx : Rn (aLk T197 σ) (CL σ (d + 1), d', mc, ms, Q) 42 [.ref a, .int (nI i), .int (nI (lessC (tv n t) i n)), .int (nI n)] [] h k s) : ∀ j x, x + j = n → i < x →
    Rn (aLk T197 σ) (CL σ (d + 1), d', mc, ms, Q) 6 [.ref a, .int (nI i), .int (nI (lessC (tv n t) i x)), .int (nI x)] [] h k s := by
  have hL0 := hL
  have hlt := hL.lt
  obtain ⟨hn, hg, hg0, ta, ha, F, ht, hF⟩ := hL
  intro j
  induction j with
  | zero =>
    intro x hx1 hix
    obtain rfl : x = n := by omega
    simp (disch := omega) only [i_op, o_int, o_long, o_flt, o_null, o_iadd, o_isub, o_imul, o_iand, o_ior, o_ixor, o_idiv, o_irem, o_ineg, o_ishl, o_ishr, o_iushr, o_ladd, o_lsub, o_lmul, o_land, o_lor, o_lxor, o_ldiv, o_lrem, o_lshl, o_lushr, o_lcmp, o_i2l, o_l2i, o_i2c, o_i2b, o_i2d, o_i2f, o_pop, o_dup, o_dup_x1, o_dup2, i_iload, i_lload, i_dload, i_aload, i_istore, i_astore, i_lstore, i_dstore, i_iinc, i_goto, i_ifeq, i_ifne, i_iflt, i_ifge, i_ifgt, i_ifle, i_ceq, i_cne, i_clt, i_cge, i_cgt, i_cle, i_null, i_nnull, i_aeq, i_ane, i_getf, i_putf, i_push, i_alen, i_iald, i_lald, i_aald, i_iast, i_last, i_aast, i_cast, i_inst, i_ret, i_iret, i_lret, i_aret, i_callS, i_callI, i_callV, i_callU, i_ulong, i_oinit, i_mmax, i_mmin, sto1, sto2, Value.category, List.getElem?_cons_zero, List.getElem?_cons_succ, List.drop_succ_cons, List.drop_zero, List.take_succ_cons, List.take_zero, List.reverse_cons, List.reverse_nil, List.nil_append, List.cons_append, List.length_cons, List.length_nil, List.set_cons_zero, List.set_cons_succ, List.lookup_cons, r197_0, r197_1, r197_2, r197_3, r197_4, r197_5, r197_6, r197_7, r197_8, r197_11, r197_12, r197_15, r197_16, r197_17, r197_18, r197_21, r197_22, r197_23, r197_26, r197_29, r197_30, r197_33, r197_34, r197_35, r197_36, r197_39, r197_43, ↓reduceIte, Nat.lt_irrefl, eq_self, ne_eq, not_true_eq_false, q_in, q_nar, q_narZ0, q_narZ1, q_fitI, q_fitL, q_fitZ0, q_fitZ1, q_fitO, q_fitN, q_fitA, q_fitAN, q_clL, q_lt, q_eq, q_lt0, q_0lt, q_eq0, q_eqm, q_inc, q_add1, q_add, q_mul, q_sub, ofNat_nI, true_or, or_true, true_and, and_true, if_true, if_false, Nat.le_refl, Nat.zero_le, not_true_eq_false, not_false_eq_true, Nat.reduceMod, Nat.reduceLT, Nat.reduceLeDiff, Nat.reduceAdd, Nat.reduceEqDiff, Nat.reduceBEq, Nat.reduceSub, Nat.reduceMul, ha, ht, Nat.lt_irrefl]
    exact hx
  | succ j ih =>
    intro x hx1 hix
    have hxn : x < n := by omega
    have h1 := tv_lt hn hlt hxn
    have h2 := tv_lt hn hlt hi
    have e := ih (x + 1) (by omega) (by omega)
    rw [lessC_s] at e
    simp (disch := omega) only [i_op, o_int, o_long, o_flt, o_null, o_iadd, o_isub, o_imul, o_iand, o_ior, o_ixor, o_idiv, o_irem, o_ineg, o_ishl, o_ishr, o_iushr, o_ladd, o_lsub, o_lmul, o_land, o_lor, o_lxor, o_ldiv, o_lrem, o_lshl, o_lushr, o_lcmp, o_i2l, o_l2i, o_i2c, o_i2b, o_i2d, o_i2f, o_pop, o_dup, o_dup_x1, o_dup2, i_iload, i_lload, i_dload, i_aload, i_istore, i_astore, i_lstore, i_dstore, i_iinc, i_goto, i_ifeq, i_ifne, i_iflt, i_ifge, i_ifgt, i_ifle, i_ceq, i_cne, i_clt, i_cge, i_cgt, i_cle, i_null, i_nnull, i_aeq, i_ane, i_getf, i_putf, i_push, i_alen, i_iald, i_lald, i_aald, i_iast, i_last, i_aast, i_cast, i_inst, i_ret, i_iret, i_lret, i_aret, i_callS, i_callI, i_callV, i_callU, i_ulong, i_oinit, i_mmax, i_mmin, sto1, sto2, Value.category, List.getElem?_cons_zero, List.getElem?_cons_succ, List.drop_succ_cons, List.drop_zero, List.take_succ_cons, List.take_zero, List.reverse_cons, List.reverse_nil, List.nil_append, List.cons_append, List.length_cons, List.length_nil, List.set_cons_zero, List.set_cons_succ, List.lookup_cons, r197_0, r197_1, r197_2, r197_3, r197_4, r197_5, r197_7, r197_8, r197_11, r197_12, r197_15, r197_16, r197_17, r197_18, r197_21, r197_22, r197_23, r197_26, r197_29, r197_30, r197_33, r197_34, r197_35, r197_36, r197_39, r197_42, r197_43, r197_6, ↓reduceIte, Nat.lt_irrefl, eq_self, ne_eq, not_true_eq_false, q_in, q_nar, q_narZ0, q_narZ1, q_fitI, q_fitL, q_fitZ0, q_fitZ1, q_fitO, q_fitN, q_fitA, q_fitAN, q_clL, q_lt, q_eq, q_lt0, q_0lt, q_eq0, q_eqm, q_inc, q_add1, q_add, q_mul, q_sub, ofNat_nI, true_or, or_true, true_and, and_true, if_true, if_false, Nat.le_refl, Nat.zero_le, not_true_eq_false, not_false_eq_true, Nat.reduceMod, Nat.reduceLT, Nat.reduceLeDiff, Nat.reduceAdd, Nat.reduceEqDiff, Nat.reduceBEq, Nat.reduceSub, Nat.reduceMul, ha, ht, hxn]
    refine call_pure (c_valueAt hL0 hxn) (by simp) hk hs ?_
    simp (disch := omega) only [i_op, o_int, o_long, o_flt, o_null, o_iadd, o_isub, o_imul, o_iand, o_ior, o_ixor, o_idiv, o_irem, o_ineg, o_ishl, o_ishr, o_iushr, o_ladd, o_lsub, o_lmul, o_land, o_lor, o_lxor, o_ldiv, o_lrem, o_lshl, o_lushr, o_lcmp, o_i2l, o_l2i, o_i2c, o_i2b, o_i2d, o_i2f, o_pop, o_dup, o_dup_x1, o_dup2, i_iload, i_lload, i_dload, i_aload, i_istore, i_astore, i_lstore, i_dstore, i_iinc, i_goto, i_ifeq, i_ifne, i_iflt, i_ifge, i_ifgt, i_ifle, i_ceq, i_cne, i_clt, i_cge, i_cgt, i_cle, i_null, i_nnull, i_aeq, i_ane, i_getf, i_putf, i_push, i_alen, i_iald, i_lald, i_aald, i_iast, i_last, i_aast, i_cast, i_inst, i_ret, i_iret, i_lret, i_aret, i_callS, i_callI, i_callV, i_callU, i_ulong, i_oinit, i_mmax, i_mmin, sto1, sto2, Value.category, List.getElem?_cons_zero, List.getElem?_cons_succ, List.drop_succ_cons, List.drop_zero, List.take_succ_cons, List.take_zero, List.reverse_cons, List.reverse_nil, List.nil_append, List.cons_append, List.length_cons, List.length_nil, List.set_cons_zero, List.set_cons_succ, List.lookup_cons, r197_0, r197_1, r197_2, r197_3, r197_4, r197_5, r197_7, r197_8, r197_11, r197_12, r197_15, r197_16, r197_17, r197_18, r197_21, r197_22, r197_23, r197_26, r197_29, r197_30, r197_33, r197_34, r197_35, r197_36, r197_39, r197_42, r197_43, ↓reduceIte, Nat.lt_irrefl, eq_self, ne_eq, not_true_eq_false, q_in, q_nar, q_narZ0, q_narZ1, q_fitI, q_fitL, q_fitZ0, q_fitZ1, q_fitO, q_fitN, q_fitA, q_fitAN, q_clL, q_lt, q_eq, q_lt0, q_0lt, q_eq0, q_eqm, q_inc, q_add1, q_add, q_mul, q_sub, ofNat_nI, true_or, or_true, true_and, and_true, if_true, if_false, Nat.le_refl, Nat.zero_le, not_true_eq_false, not_false_eq_true, Nat.reduceMod, Nat.reduceLT, Nat.reduceLeDiff, Nat.reduceAdd, Nat.reduceEqDiff, Nat.reduceBEq, Nat.reduceSub, Nat.reduceMul, ha, ht, hxn]
    refine call_pure (c_valueAt hL0 hi) (by simp) hk hs ?_
    simp (disch := omega) only [i_op, o_int, o_long, o_flt, o_null, o_iadd, o_isub, o_imul, o_iand, o_ior, o_ixor, o_idiv, o_irem, o_ineg, o_ishl, o_ishr, o_iushr, o_ladd, o_lsub, o_lmul, o_land, o_lor, o_lxor, o_ldiv, o_lrem, o_lshl, o_lushr, o_lcmp, o_i2l, o_l2i, o_i2c, o_i2b, o_i2d, o_i2f, o_pop, o_dup, o_dup_x1, o_dup2, i_iload, i_lload, i_dload, i_aload, i_istore, i_astore, i_lstore, i_dstore, i_iinc, i_goto, i_ifeq, i_ifne, i_iflt, i_ifge, i_ifgt, i_ifle, i_ceq, i_cne, i_clt, i_cge, i_cgt, i_cle, i_null, i_nnull, i_aeq, i_ane, i_getf, i_putf, i_push, i_alen, i_iald, i_lald, i_aald, i_iast, i_last, i_aast, i_cast, i_inst, i_ret, i_iret, i_lret, i_aret, i_callS, i_callI, i_callV, i_callU, i_ulong, i_oinit, i_mmax, i_mmin, sto1, sto2, Value.category, List.getElem?_cons_zero, List.getElem?_cons_succ, List.drop_succ_cons, List.drop_zero, List.take_succ_cons, List.take_zero, List.reverse_cons, List.reverse_nil, List.nil_append, List.cons_append, List.length_cons, List.length_nil, List.set_cons_zero, List.set_cons_succ, List.lookup_cons, r197_0, r197_1, r197_2, r197_3, r197_4, r197_5, r197_7, r197_8, r197_11, r197_12, r197_15, r197_16, r197_17, r197_18, r197_21, r197_22, r197_23, r197_26, r197_29, r197_30, r197_33, r197_34, r197_35, r197_36, r197_39, r197_42, r197_43, ↓reduceIte, Nat.lt_irrefl, eq_self, ne_eq, not_true_eq_false, q_in, q_nar, q_narZ0, q_narZ1, q_fitI, q_fitL, q_fitZ0, q_fitZ1, q_fitO, q_fitN, q_fitA, q_fitAN, q_clL, q_lt, q_eq, q_lt0, q_0lt, q_eq0, q_eqm, q_inc, q_add1, q_add, q_mul, q_sub, ofNat_nI, true_or, or_true, true_and, and_true, if_true, if_false, Nat.le_refl, Nat.zero_le, not_true_eq_false, not_false_eq_true, Nat.reduceMod, Nat.reduceLT, Nat.reduceLeDiff, Nat.reduceAdd, Nat.reduceEqDiff, Nat.reduceBEq, Nat.reduceSub, Nat.reduceMul, ha, ht, hxn]
    by_cases hc : tv n t x < tv n t i
    · rw [if_pos ⟨hix, hc⟩] at e
      rw [if_pos hc]
      exact e
    · rw [if_neg (fun z => hc z.2)] at e
      rw [if_neg hc]
      simp only [Int32.add_zero]
      exact e
set_option maxHeartbeats 4000000 in
/-- Lie.lessBehind -/
theorem c_lessBehind {σ : Nat → Value} {d a n i sh g : Nat} {t : Nat → Nat} {h : aH} (hL : IsLie h a sh n t g) (hi : i < n) :
    CL σ (d + 2) 197 [.ref a, .int (nI i)] h 0 0 (aPure (.int (nI (lessC (tv n t) i n))) h) := by
  have hn := hL.1
  refine CL_in (tb197 _) ml197 (by simp [lay]) ?_
  simp (disch := omega) only [lays, lay, List.replicate, List.append_nil, i_op, o_int, o_long, o_flt, o_null, o_iadd, o_isub, o_imul, o_iand, o_ior, o_ixor, o_idiv, o_irem, o_ineg, o_ishl, o_ishr, o_iushr, o_ladd, o_lsub, o_lmul, o_land, o_lor, o_lxor, o_ldiv, o_lrem, o_lshl, o_lushr, o_lcmp, o_i2l, o_l2i, o_i2c, o_i2b, o_i2d, o_i2f, o_pop, o_dup, o_dup_x1, o_dup2, i_iload, i_lload, i_dload, i_aload, i_istore, i_astore, i_lstore, i_dstore, i_iinc, i_goto, i_ifeq, i_ifne, i_iflt, i_ifge, i_ifgt, i_ifle, i_ceq, i_cne, i_clt, i_cge, i_cgt, i_cle, i_null, i_nnull, i_aeq, i_ane, i_getf, i_putf, i_push, i_alen, i_iald, i_lald, i_aald, i_iast, i_last, i_aast, i_cast, i_inst, i_ret, i_iret, i_lret, i_aret, i_callS, i_callI, i_callV, i_callU, i_ulong, i_oinit, i_mmax, i_mmin, sto1, sto2, Value.category, List.getElem?_cons_zero, List.getElem?_cons_succ, List.drop_succ_cons, List.drop_zero, List.take_succ_cons, List.take_zero, List.reverse_cons, List.reverse_nil, List.nil_append, List.cons_append, List.length_cons, List.length_nil, List.set_cons_zero, List.set_cons_succ, List.lookup_cons, r197_0, r197_1, r197_2, r197_3, r197_4, r197_5, r197_7, r197_8, r197_11, r197_12, r197_15, r197_16, r197_17, r197_18, r197_21, r197_22, r197_23, r197_26, r197_29, r197_30, r197_33, r197_34, r197_35, r197_36, r197_39, r197_42, r197_43, ↓reduceIte, Nat.lt_irrefl, eq_self, ne_eq, not_true_eq_false, q_in, q_nar, q_narZ0, q_narZ1, q_fitI, q_fitL, q_fitZ0, q_fitZ1, q_fitO, q_fitN, q_fitA, q_fitAN, q_clL, q_lt, q_eq, q_lt0, q_0lt, q_eq0, q_eqm, q_inc, q_add1, q_add, q_mul, q_sub, ofNat_nI, true_or, or_true, true_and, and_true, if_true, if_false, Nat.le_refl, Nat.zero_le, not_true_eq_false, not_false_eq_true, Nat.reduceMod, Nat.reduceLT, Nat.reduceLeDiff, Nat.reduceAdd, Nat.reduceEqDiff, Nat.reduceBEq, Nat.reduceSub, Nat.reduceMul]
  have e := l_lessBehind (σ := σ) (d := d) (d' := d + 1 + 1) (mc := 0) (ms := 0) (k := 0) (s := 0) (Q := fun o h' k s => k ≤ 0 ∧ s ≤ 0 ∧ aPure (.int (nI (lessC (tv n t) i n))) h o h') hL hi (Nat.le_refl _) (Nat.le_refl _) ?_ (n - (i + 1)) (i + 1) (by omega) (by omega)
  · rw [lessC_0 (tv n t) i (i + 1) (by omega), nI_0] at e
    exact e
  · simp (disch := omega) only [i_op, o_int, o_long, o_flt, o_null, o_iadd, o_isub, o_imul, o_iand, o_ior, o_ixor, o_idiv, o_irem, o_ineg, o_ishl, o_ishr, o_iushr, o_ladd, o_lsub, o_lmul, o_land, o_lor, o_lxor, o_ldiv, o_lrem, o_lshl, o_lushr, o_lcmp, o_i2l, o_l2i, o_i2c, o_i2b, o_i2d, o_i2f, o_pop, o_dup, o_dup_x1, o_dup2, i_iload, i_lload, i_dload, i_aload, i_istore, i_astore, i_lstore, i_dstore, i_iinc, i_goto, i_ifeq, i_ifne, i_iflt, i_ifge, i_ifgt, i_ifle, i_ceq, i_cne, i_clt, i_cge, i_cgt, i_cle, i_null, i_nnull, i_aeq, i_ane, i_getf, i_putf, i_push, i_alen, i_iald, i_lald, i_aald, i_iast, i_last, i_aast, i_cast, i_inst, i_ret, i_iret, i_lret, i_aret, i_callS, i_callI, i_callV, i_callU, i_ulong, i_oinit, i_mmax, i_mmin, sto1, sto2, Value.category, List.getElem?_cons_zero, List.getElem?_cons_succ, List.drop_succ_cons, List.drop_zero, List.take_succ_cons, List.take_zero, List.reverse_cons, List.reverse_nil, List.nil_append, List.cons_append, List.length_cons, List.length_nil, List.set_cons_zero, List.set_cons_succ, List.lookup_cons, r197_0, r197_1, r197_2, r197_3, r197_4, r197_5, r197_7, r197_8, r197_11, r197_12, r197_15, r197_16, r197_17, r197_18, r197_21, r197_22, r197_23, r197_26, r197_29, r197_30, r197_33, r197_34, r197_35, r197_36, r197_39, r197_42, r197_43, ↓reduceIte, Nat.lt_irrefl, eq_self, ne_eq, not_true_eq_false, q_in, q_nar, q_narZ0, q_narZ1, q_fitI, q_fitL, q_fitZ0, q_fitZ1, q_fitO, q_fitN, q_fitA, q_fitAN, q_clL, q_lt, q_eq, q_lt0, q_0lt, q_eq0, q_eqm, q_inc, q_add1, q_add, q_mul, q_sub, ofNat_nI, true_or, or_true, true_and, and_true, if_true, if_false, Nat.le_refl, Nat.zero_le, not_true_eq_false, not_false_eq_true, Nat.reduceMod, Nat.reduceLT, Nat.reduceLeDiff, Nat.reduceAdd, Nat.reduceEqDiff, Nat.reduceBEq, Nat.reduceSub, Nat.reduceMul, aPure, aQ]
theorem rkC_s (n : Nat) (t : Nat → Nat) (k : Nat) : rkC n t (k + 1) = rkC n t k * (n - k) + lessC (tv n t) k n := rfl
theorem l_rank {σ : Nat → Value} {d d' mc ms a n sh g : Nat} {t : Nat → Nat} {h : aH} {k s : Nat} {Q : aO → aH → Nat → Nat → Prop} (hL : IsLie h a sh n t g) (hk : k ≤ mc) (hs : s ≤ ms)
    (hx : Rn (aLk T202 σ) (CL σ (d + 2), d', mc, ms, Q) 37 [.ref a, .long (lN (rkN n t)), jk, .int (nI n)] [] h k s) : ∀ j x, x + j = n →
    Rn (aLk T202 σ) (CL σ (d + 2), d', mc, ms, Q) 4 [.ref a, .long (lN (rkC n t x)), jk, .int (nI x)] [] h k s := by
  have hL0 := hL
  have hlt := hL.lt
  obtain ⟨hn, hg, hg0, ta, ha, F, ht, hF⟩ := hL
  intro j
  induction j with
  | zero =>
    intro x hx1
    obtain rfl : x = n := by omega
    simp (disch := omega) only [i_op, o_int, o_long, o_flt, o_null, o_iadd, o_isub, o_imul, o_iand, o_ior, o_ixor, o_idiv, o_irem, o_ineg, o_ishl, o_ishr, o_iushr, o_ladd, o_lsub, o_lmul, o_land, o_lor, o_lxor, o_ldiv, o_lrem, o_lshl, o_lushr, o_lcmp, o_i2l, o_l2i, o_i2c, o_i2b, o_i2d, o_i2f, o_pop, o_dup, o_dup_x1, o_dup2, i_iload, i_lload, i_dload, i_aload, i_istore, i_astore, i_lstore, i_dstore, i_iinc, i_goto, i_ifeq, i_ifne, i_iflt, i_ifge, i_ifgt, i_ifle, i_ceq, i_cne, i_clt, i_cge, i_cgt, i_cle, i_null, i_nnull, i_aeq, i_ane, i_getf, i_putf, i_push, i_alen, i_iald, i_lald, i_aald, i_iast, i_last, i_aast, i_cast, i_inst, i_ret, i_iret, i_lret, i_aret, i_callS, i_callI, i_callV, i_callU, i_ulong, i_oinit, i_mmax, i_mmin, sto1, sto2, Value.category, List.getElem?_cons_zero, List.getElem?_cons_succ, List.drop_succ_cons, List.drop_zero, List.take_succ_cons, List.take_zero, List.reverse_cons, List.reverse_nil, List.nil_append, List.cons_append, List.length_cons, List.length_nil, List.set_cons_zero, List.set_cons_succ, List.lookup_cons, r202_0, r202_1, r202_2, r202_3, r202_4, r202_5, r202_6, r202_9, r202_10, r202_13, r202_14, r202_15, r202_18, r202_19, r202_20, r202_21, r202_22, r202_23, r202_24, r202_25, r202_28, r202_29, r202_30, r202_31, r202_34, r202_38, ↓reduceIte, Nat.lt_irrefl, eq_self, ne_eq, not_true_eq_false, q_in, q_nar, q_narZ0, q_narZ1, q_fitI, q_fitL, q_fitZ0, q_fitZ1, q_fitO, q_fitN, q_fitA, q_fitAN, q_clL, q_lt, q_eq, q_lt0, q_0lt, q_eq0, q_eqm, q_inc, q_add1, q_add, q_mul, q_sub, ofNat_nI, true_or, or_true, true_and, and_true, if_true, if_false, Nat.le_refl, Nat.zero_le, not_true_eq_false, not_false_eq_true, Nat.reduceMod, Nat.reduceLT, Nat.reduceLeDiff, Nat.reduceAdd, Nat.reduceEqDiff, Nat.reduceBEq, Nat.reduceSub, Nat.reduceMul, ha, ht, Nat.lt_irrefl]
    exact hx
  | succ j ih =>
    intro x hx1
    have hxn : x < n := by omega
    have e := ih (x + 1) (by omega)
    rw [rkC_s] at e
    have hl := lessC_le (tv n t) x n
    simp (disch := omega) only [i_op, o_int, o_long, o_flt, o_null, o_iadd, o_isub, o_imul, o_iand, o_ior, o_ixor, o_idiv, o_irem, o_ineg, o_ishl, o_ishr, o_iushr, o_ladd, o_lsub, o_lmul, o_land, o_lor, o_lxor, o_ldiv, o_lrem, o_lshl, o_lushr, o_lcmp, o_i2l, o_l2i, o_i2c, o_i2b, o_i2d, o_i2f, o_pop, o_dup, o_dup_x1, o_dup2, i_iload, i_lload, i_dload, i_aload, i_istore, i_astore, i_lstore, i_dstore, i_iinc, i_goto, i_ifeq, i_ifne, i_iflt, i_ifge, i_ifgt, i_ifle, i_ceq, i_cne, i_clt, i_cge, i_cgt, i_cle, i_null, i_nnull, i_aeq, i_ane, i_getf, i_putf, i_push, i_alen, i_iald, i_lald, i_aald, i_iast, i_last, i_aast, i_cast, i_inst, i_ret, i_iret, i_lret, i_aret, i_callS, i_callI, i_callV, i_callU, i_ulong, i_oinit, i_mmax, i_mmin, sto1, sto2, Value.category, List.getElem?_cons_zero, List.getElem?_cons_succ, List.drop_succ_cons, List.drop_zero, List.take_succ_cons, List.take_zero, List.reverse_cons, List.reverse_nil, List.nil_append, List.cons_append, List.length_cons, List.length_nil, List.set_cons_zero, List.set_cons_succ, List.lookup_cons, r202_0, r202_1, r202_2, r202_3, r202_5, r202_6, r202_9, r202_10, r202_13, r202_14, r202_15, r202_18, r202_19, r202_20, r202_21, r202_22, r202_23, r202_24, r202_25, r202_28, r202_29, r202_30, r202_31, r202_34, r202_37, r202_38, r202_4, ↓reduceIte, Nat.lt_irrefl, eq_self, ne_eq, not_true_eq_false, q_in, q_nar, q_narZ0, q_narZ1, q_fitI, q_fitL, q_fitZ0, q_fitZ1, q_fitO, q_fitN, q_fitA, q_fitAN, q_clL, q_lt, q_eq, q_lt0, q_0lt, q_eq0, q_eqm, q_inc, q_add1, q_add, q_mul, q_sub, ofNat_nI, true_or, or_true, true_and, and_true, if_true, if_false, Nat.le_refl, Nat.zero_le, not_true_eq_false, not_false_eq_true, Nat.reduceMod, Nat.reduceLT, Nat.reduceLeDiff, Nat.reduceAdd, Nat.reduceEqDiff, Nat.reduceBEq, Nat.reduceSub, Nat.reduceMul, ha, ht, hxn]
    refine call_pure (c_lessBehind hL0 hxn) (by simp) hk hs ?_
    simp (disch := omega) only [i_op, o_int, o_long, o_flt, o_null, o_iadd, o_isub, o_imul, o_iand, o_ior, o_ixor, o_idiv, o_irem, o_ineg, o_ishl, o_ishr, o_iushr, o_ladd, o_lsub, o_lmul, o_land, o_lor, o_lxor, o_ldiv, o_lrem, o_lshl, o_lushr, o_lcmp, o_i2l, o_l2i, o_i2c, o_i2b, o_i2d, o_i2f, o_pop, o_dup, o_dup_x1, o_dup2, i_iload, i_lload, i_dload, i_aload, i_istore, i_astore, i_lstore, i_dstore, i_iinc, i_goto, i_ifeq, i_ifne, i_iflt, i_ifge, i_ifgt, i_ifle, i_ceq, i_cne, i_clt, i_cge, i_cgt, i_cle, i_null, i_nnull, i_aeq, i_ane, i_getf, i_putf, i_push, i_alen, i_iald, i_lald, i_aald, i_iast, i_last, i_aast, i_cast, i_inst, i_ret, i_iret, i_lret, i_aret, i_callS, i_callI, i_callV, i_callU, i_ulong, i_oinit, i_mmax, i_mmin, sto1, sto2, Value.category, List.getElem?_cons_zero, List.getElem?_cons_succ, List.drop_succ_cons, List.drop_zero, List.take_succ_cons, List.take_zero, List.reverse_cons, List.reverse_nil, List.nil_append, List.cons_append, List.length_cons, List.length_nil, List.set_cons_zero, List.set_cons_succ, List.lookup_cons, r202_0, r202_1, r202_2, r202_3, r202_5, r202_6, r202_9, r202_10, r202_13, r202_14, r202_15, r202_18, r202_19, r202_20, r202_21, r202_22, r202_23, r202_24, r202_25, r202_28, r202_29, r202_30, r202_31, r202_34, r202_37, r202_38, ↓reduceIte, Nat.lt_irrefl, eq_self, ne_eq, not_true_eq_false, q_in, q_nar, q_narZ0, q_narZ1, q_fitI, q_fitL, q_fitZ0, q_fitZ1, q_fitO, q_fitN, q_fitA, q_fitAN, q_clL, q_lt, q_eq, q_lt0, q_0lt, q_eq0, q_eqm, q_inc, q_add1, q_add, q_mul, q_sub, ofNat_nI, true_or, or_true, true_and, and_true, if_true, if_false, Nat.le_refl, Nat.zero_le, not_true_eq_false, not_false_eq_true, Nat.reduceMod, Nat.reduceLT, Nat.reduceLeDiff, Nat.reduceAdd, Nat.reduceEqDiff, Nat.reduceBEq, Nat.reduceSub, Nat.reduceMul, ha, ht, hxn, nI_l, lN_mul, lN_add]
    exact e
set_option maxHeartbeats 4000000 in
/-- Lie.rank -/
theorem c_rank {σ : Nat → Value} {d a n sh g : Nat} {t : Nat → Nat} {h : aH} (hL : IsLie h a sh n t g) :
    CL σ (d + 3) 202 [.ref a] h 0 0 (aPure (.long (lN (rkN n t))) h) := by
  refine CL_in (tb202 _) ml202 (by simp [lay]) ?_
  simp (disch := omega) only [lays, lay, List.replicate, List.append_nil, i_op, o_int, o_long, o_flt, o_null, o_iadd, o_isub, o_imul, o_iand, o_ior, o_ixor, o_idiv, o_irem, o_ineg, o_ishl, o_ishr, o_iushr, o_ladd, o_lsub, o_lmul, o_land, o_lor, o_lxor, o_ldiv, o_lrem, o_lshl, o_lushr, o_lcmp, o_i2l, o_l2i, o_i2c, o_i2b, o_i2d, o_i2f, o_pop, o_dup, o_dup_x1, o_dup2, i_iload, i_lload, i_dload, i_aload, i_istore, i_astore, i_lstore, i_dstore, i_iinc, i_goto, i_ifeq, i_ifne, i_iflt, i_ifge, i_ifgt, i_ifle, i_ceq, i_cne, i_clt, i_cge, i_cgt, i_cle, i_null, i_nnull, i_aeq, i_ane, i_getf, i_putf, i_push, i_alen, i_iald, i_lald, i_aald, i_iast, i_last, i_aast, i_cast, i_inst, i_ret, i_iret, i_lret, i_aret, i_callS, i_callI, i_callV, i_callU, i_ulong, i_oinit, i_mmax, i_mmin, sto1, sto2, Value.category, List.getElem?_cons_zero, List.getElem?_cons_succ, List.drop_succ_cons, List.drop_zero, List.take_succ_cons, List.take_zero, List.reverse_cons, List.reverse_nil, List.nil_append, List.cons_append, List.length_cons, List.length_nil, List.set_cons_zero, List.set_cons_succ, List.lookup_cons, r202_0, r202_1, r202_2, r202_3, r202_5, r202_6, r202_9, r202_10, r202_13, r202_14, r202_15, r202_18, r202_19, r202_20, r202_21, r202_22, r202_23, r202_24, r202_25, r202_28, r202_29, r202_30, r202_31, r202_34, r202_37, r202_38, ↓reduceIte, Nat.lt_irrefl, eq_self, ne_eq, not_true_eq_false, q_in, q_nar, q_narZ0, q_narZ1, q_fitI, q_fitL, q_fitZ0, q_fitZ1, q_fitO, q_fitN, q_fitA, q_fitAN, q_clL, q_lt, q_eq, q_lt0, q_0lt, q_eq0, q_eqm, q_inc, q_add1, q_add, q_mul, q_sub, ofNat_nI, true_or, or_true, true_and, and_true, if_true, if_false, Nat.le_refl, Nat.zero_le, not_true_eq_false, not_false_eq_true, Nat.reduceMod, Nat.reduceLT, Nat.reduceLeDiff, Nat.reduceAdd, Nat.reduceEqDiff, Nat.reduceBEq, Nat.reduceSub, Nat.reduceMul]
  have e := l_rank (σ := σ) (d := d) (d' := d + 2 + 1) (mc := 0) (ms := 0) (k := 0) (s := 0) (Q := fun o h' k s => k ≤ 0 ∧ s ≤ 0 ∧ aPure (.long (lN (rkN n t))) h o h') hL (Nat.le_refl _) (Nat.le_refl _) ?_ n 0 (by omega)
  · rw [nI_0] at e
    exact e
  · simp (disch := omega) only [i_op, o_int, o_long, o_flt, o_null, o_iadd, o_isub, o_imul, o_iand, o_ior, o_ixor, o_idiv, o_irem, o_ineg, o_ishl, o_ishr, o_iushr, o_ladd, o_lsub, o_lmul, o_land, o_lor, o_lxor, o_ldiv, o_lrem, o_lshl, o_lushr, o_lcmp, o_i2l, o_l2i, o_i2c, o_i2b, o_i2d, o_i2f, o_pop, o_dup, o_dup_x1, o_dup2, i_iload, i_lload, i_dload, i_aload, i_istore, i_astore, i_lstore, i_dstore, i_iinc, i_goto, i_ifeq, i_ifne, i_iflt, i_ifge, i_ifgt, i_ifle, i_ceq, i_cne, i_clt, i_cge, i_cgt, i_cle, i_null, i_nnull, i_aeq, i_ane, i_getf, i_putf, i_push, i_alen, i_iald, i_lald, i_aald, i_iast, i_last, i_aast, i_cast, i_inst, i_ret, i_iret, i_lret, i_aret, i_callS, i_callI, i_callV, i_callU, i_ulong, i_oinit, i_mmax, i_mmin, sto1, sto2, Value.category, List.getElem?_cons_zero, List.getElem?_cons_succ, List.drop_succ_cons, List.drop_zero, List.take_succ_cons, List.take_zero, List.reverse_cons, List.reverse_nil, List.nil_append, List.cons_append, List.length_cons, List.length_nil, List.set_cons_zero, List.set_cons_succ, List.lookup_cons, r202_0, r202_1, r202_2, r202_3, r202_5, r202_6, r202_9, r202_10, r202_13, r202_14, r202_15, r202_18, r202_19, r202_20, r202_21, r202_22, r202_23, r202_24, r202_25, r202_28, r202_29, r202_30, r202_31, r202_34, r202_37, r202_38, ↓reduceIte, Nat.lt_irrefl, eq_self, ne_eq, not_true_eq_false, q_in, q_nar, q_narZ0, q_narZ1, q_fitI, q_fitL, q_fitZ0, q_fitZ1, q_fitO, q_fitN, q_fitA, q_fitAN, q_clL, q_lt, q_eq, q_lt0, q_0lt, q_eq0, q_eqm, q_inc, q_add1, q_add, q_mul, q_sub, ofNat_nI, true_or, or_true, true_and, and_true, if_true, if_false, Nat.le_refl, Nat.zero_le, not_true_eq_false, not_false_eq_true, Nat.reduceMod, Nat.reduceLT, Nat.reduceLeDiff, Nat.reduceAdd, Nat.reduceEqDiff, Nat.reduceBEq, Nat.reduceSub, Nat.reduceMul, aPure, aQ]
