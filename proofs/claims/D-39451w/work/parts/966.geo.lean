/-! trays: open cells, reach, distances: pure; the model's methods cellBeside, walksFrom -/
set_option maxRecDepth 100000
/-- the open cells among the first ones -/
def opK (wl : Nat → Nat) : Nat → Nat
  | 0 => 0
  | k + 1 => opK wl k + if wl k = 0 then 1 else 0
theorem opK_s (wl : Nat → Nat) (k : Nat) : opK wl (k + 1) = opK wl k + if wl k = 0 then 1 else 0 := rfl
theorem opK_mono (wl : Nat → Nat) : ∀ j k, opK wl k ≤ opK wl (k + j) := by
  intro j
  induction j with
  | zero => exact fun k => Nat.le_refl _
  | succ j ih =>
    intro k
    have := ih k
    rw [show k + (j + 1) = k + j + 1 by omega, opK_s]
    omega
theorem opK_le (wl : Nat → Nat) : ∀ k, opK wl k ≤ k := by
  intro k
  induction k with
  | zero => exact Nat.le_refl _
  | succ k ih => rw [opK_s]; split <;> omega
theorem opK_lt {wl : Nat → Nat} {c m : Nat} (h0 : wl c = 0) (h : c < m) : opK wl c < opK wl m := by
  have h1 := opK_mono wl (m - (c + 1)) (c + 1)
  rw [show c + 1 + (m - (c + 1)) = m by omega, opK_s, if_pos h0] at h1
  omega
theorem opK_inj {wl : Nat → Nat} {c c' : Nat} (h0 : wl c = 0) (h0' : wl c' = 0) (e : opK wl c = opK wl c') : c = c' := by
  rcases Nat.lt_trichotomy c c' with h | h | h
  · have := opK_lt h0 h; omega
  · exact h
  · have := opK_lt h0' h; omega
/-- the k-th open cell -/
def cfK (wl : Nat → Nat) (k : Nat) : Nat → Nat
  | 0 => 0
  | m + 1 => if wl m = 0 ∧ opK wl m = k then m else cfK wl k m
theorem cfK_ok {wl : Nat → Nat} {k : Nat} : ∀ {m : Nat}, k < opK wl m → cfK wl k m < m ∧ wl (cfK wl k m) = 0 ∧ opK wl (cfK wl k m) = k := by
  intro m
  induction m with
  | zero => intro h; exact absurd h (Nat.not_lt_zero k)
  | succ m ih =>
    intro h
    unfold cfK
    by_cases c : wl m = 0 ∧ opK wl m = k
    · rw [if_pos c]; exact ⟨Nat.lt_succ_self m, c.1, c.2⟩
    · rw [if_neg c]
      rw [opK_s] at h
      have : k < opK wl m := by
        by_cases c0 : wl m = 0
        · rw [if_pos c0] at h
          have : opK wl m ≠ k := fun e => c ⟨c0, e⟩
          omega
        · rw [if_neg c0] at h; exact h
      have := ih this
      exact ⟨by omega, this.2⟩
theorem cfK_u {wl : Nat → Nat} {m c : Nat} (hc : c < m) (h0 : wl c = 0) : cfK wl (opK wl c) m = c := by
  have h := cfK_ok (m := m) (opK_lt h0 hc)
  exact opK_inj h.2.1 h0 h.2.2
/-- a tray as it is told -/
def geoN (R C : Nat) (wl : Nat → Nat) : nS := fun a b => if a = 0 then cfK wl b (R * C) else if a = 1 then opK wl b else if a = 4 then wl b else if a = 5 then R else if a = 6 then C else if a = 7 then opK wl (R * C) else 0
/-- all of a tray but its distances -/
def GG0 (N : nS) : Prop := 2 ≤ N 5 0 ∧ N 5 0 ≤ 4 ∧ 2 ≤ N 6 0 ∧ N 6 0 ≤ 4 ∧ 3 ≤ N 7 0 ∧ N 7 0 ≤ N 5 0 * N 6 0 ∧ (∀ k, k < N 7 0 → N 0 k < N 5 0 * N 6 0 ∧ N 4 (N 0 k) = 0 ∧ N 1 (N 0 k) = k) ∧ (∀ c, c < N 5 0 * N 6 0 → N 4 c ≤ 1 ∧ (N 4 c = 0 → N 1 c < N 7 0 ∧ N 0 (N 1 c) = c)) ∧ (∀ i j, i < j → j < N 7 0 → N 0 i < N 0 j)
theorem geo0 {R C : Nat} {wl : Nat → Nat} (hR2 : 2 ≤ R) (hR4 : R ≤ 4) (hC2 : 2 ≤ C) (hC4 : C ≤ 4) (hw : ∀ c, c < R * C → wl c ≤ 1) (hn : 3 ≤ opK wl (R * C)) : GG0 (geoN R C wl) := by
  refine ⟨hR2, hR4, hC2, hC4, hn, opK_le _ _, fun k hk => cfK_ok hk, fun c hc => ⟨hw c hc, fun h0 => ⟨opK_lt h0 hc, cfK_u hc h0⟩⟩, fun i j hij hj => ?_⟩
  have hi := cfK_ok (wl := wl) (k := i) (m := R * C) (by have : j < opK wl (R * C) := hj; omega)
  have hj' := cfK_ok (wl := wl) (k := j) (m := R * C) hj
  show cfK wl i (R * C) < cfK wl j (R * C)
  rcases Nat.lt_trichotomy (cfK wl i (R * C)) (cfK wl j (R * C)) with h | h | h
  · exact h
  · have e1 := hi.2.2
    rw [h, hj'.2.2] at e1
    omega
  · have := opK_lt hj'.2.1 h
    omega
theorem GG0.nbc {N : nS} (h : GG0 N) {k d j : Nat} (hk : k < N 7 0) (hb : nb N k d = some j) : nbC (N 5 0) (N 6 0) (N 0 k) d = some (N 0 j) ∧ N 4 (N 0 j) = 0 ∧ j < N 7 0 := by
  obtain ⟨a1, a2, a3, a4, a5, a6, a7, a8, a9⟩ := h
  unfold nb at hb
  have h1 := (a7 k hk).1
  have h6 : 0 < N 6 0 := by omega
  cases e : nbC (N 5 0) (N 6 0) (N 0 k) d with
  | none => rw [e] at hb; cases hb
  | some c =>
    rw [e] at hb
    simp only [] at hb
    split at hb
    · rename_i h0
      cases hb
      have := (a8 c (nbC_lt h6 h1 e)).2 h0
      rw [this.2]
      exact ⟨rfl, h0, this.1⟩
    · cases hb
theorem GG0.rev {N : nS} (h : GG0 N) {k d j : Nat} (hk : k < N 7 0) (hd : d < 4) (hb : nb N k d = some j) : nb N j (3 - d) = some k := by
  obtain ⟨h1, h2, h3⟩ := h.nbc hk hb
  have h4 := h.2.2.2.2.2.2.1 k hk
  have h5 := nbC_rev h.2.2.1 h4.1 hd h1
  unfold nb
  rw [h5]
  simp only []
  rw [if_pos h4.2.1, h4.2.2]
/-- open cells that are reached in so many moves -/
def Rch (N : nS) (i : Nat) : Nat → Nat → Prop
  | 0, j => j = i
  | s + 1, j => Rch N i s j ∨ ∃ k d, k < N 7 0 ∧ d < 4 ∧ Rch N i s k ∧ nb N k d = some j
def Conn (N : nS) : Prop := ∀ j, j < N 7 0 → ∃ s, Rch N 0 s j
theorem Rch.lt {N : nS} (hG : GG0 N) {i : Nat} (hi : i < N 7 0) : ∀ {s j : Nat}, Rch N i s j → j < N 7 0 := by
  intro s
  induction s with
  | zero => intro j h; rw [show j = i from h]; exact hi
  | succ s ih =>
    intro j h
    rcases h with h | ⟨k, d, hk, hd, hr, hb⟩
    · exact ih h
    · exact (hG.nbc hk hb).2.2
theorem Rch.tr {N : nS} {i j : Nat} {s : Nat} (h : Rch N i s j) : ∀ {s' k : Nat}, Rch N j s' k → Rch N i (s + s') k := by
  intro s'
  induction s' with
  | zero => intro k hk; rw [show k = j from hk]; exact h
  | succ s' ih =>
    intro k hk
    rcases hk with hk | ⟨q, d, hq, hd, hr, hb⟩
    · exact .inl (ih hk)
    · exact .inr ⟨q, d, hq, hd, ih hr, hb⟩
theorem Rch.sym {N : nS} (hG : GG0 N) {i : Nat} (hi : i < N 7 0) : ∀ {s j : Nat}, Rch N i s j → ∃ s', Rch N j s' i := by
  intro s
  induction s with
  | zero => intro j h; rw [show j = i from h]; exact ⟨0, rfl⟩
  | succ s ih =>
    intro j h
    rcases h with h | ⟨k, d, hk, hd, hr, hb⟩
    · exact ih h
    · obtain ⟨s', h'⟩ := ih hr
      have h1 : Rch N j 1 k := .inr ⟨j, 3 - d, (hG.nbc hk hb).2.2, by omega, rfl, hG.rev hk hd hb⟩
      exact ⟨1 + s', h1.tr h'⟩
theorem Conn.all {N : nS} (hG : GG0 N) (h : Conn N) {i j : Nat} (hi : i < N 7 0) (hj : j < N 7 0) : ∃ s, Rch N i s j := by
  have h0 : 0 < N 7 0 := by omega
  obtain ⟨s, hs⟩ := h i hi
  obtain ⟨s1, hs1⟩ := Rch.sym hG h0 hs
  obtain ⟨s2, hs2⟩ := h j hj
  exact ⟨s1 + s2, hs1.tr hs2⟩
theorem dist_ex {N : nS} {i : Nat} (hc : ∀ j, j < N 7 0 → ∃ s, Rch N i s j) (hG : GG0 N) (hi : i < N 7 0) : ∃ D, IsDist N i D := by
  have hl : ∀ j, j < N 7 0 → ∃ K, Rch N i K j ∧ ∀ k, k < K → ¬ Rch N i k j := fun j hj => by
    obtain ⟨s, hs⟩ := hc j hj
    obtain ⟨K, _, h2, h3⟩ := firstGood (p := fun s => Rch N i s j) (n := s + 1) ⟨s, Nat.lt_succ_self s, hs⟩
    exact ⟨K, h2, h3⟩
  have hch : ∃ D : Nat → Nat, ∀ j, j < N 7 0 → Rch N i (D j) j ∧ ∀ k, k < D j → ¬ Rch N i k j := by
    refine ⟨fun j => if h : j < N 7 0 then Classical.choose (hl j h) else 0, fun j hj => ?_⟩
    simp only [dif_pos hj]
    exact Classical.choose_spec (hl j hj)
  obtain ⟨D, hD⟩ := hch
  have hle : ∀ {s j}, j < N 7 0 → Rch N i s j → D j ≤ s := fun {s j} hj hr => Classical.byContradiction fun z => (hD j hj).2 s (by omega) hr
  refine ⟨D, ?_, fun k d j hk hd hb => ?_, fun j hj hne => ?_⟩
  · have := hle hi (show Rch N i 0 i from rfl)
    omega
  · exact hle (hG.nbc hk hb).2.2 (show Rch N i (D k + 1) j from .inr ⟨k, d, hk, hd, (hD k hk).1, hb⟩)
  · have h1 := hD j hj
    cases e : D j with
    | zero =>
      rw [e] at h1
      exact absurd h1.1 hne
    | succ s =>
      rw [e] at h1
      rcases h1.1 with h | ⟨k, d, hk, hd, hr, hb⟩
      · exact absurd h (h1.2 s (Nat.lt_succ_self s))
      · have h2 := hle hk hr
        have h3 := hle hj (show Rch N i (D k + 1) j from .inr ⟨k, d, hk, hd, (hD k hk).1, hb⟩)
        exact ⟨k, d, hk, hd, hb, by omega⟩
theorem c_cellBeside {σ : Nat → Value} {d m R C c dir : Nat} {h : aH} {S : mS} {L : Nat → Int64} (h5 : S 5 0 = nI R) (h6 : S 6 0 = nI C) (hR4 : R ≤ 4) (hC2 : 2 ≤ C) (hC4 : C ≤ 4) (hc : c < R * C) (hRC : R * C ≤ 16) (hd : dir < 4) : CL σ (d + 1) 259 [.ref m, .int (nI c), .int (nI dir)] (mh h m S L) 0 0 (aPure (.int (nI (oN (nbC R C c dir)))) (mh h m S L)) := by
  have h1 := Nat.div_le_self c C
  have h2 := Nat.mod_le c C
  have hge : ¬ c / C = 0 → C ≤ c := fun h0 => ((Nat.div_pos_iff (a := c) (b := C)).mp (Nat.pos_of_ne_zero h0)).2
  have hge1 : ¬ c % C = 0 → 1 ≤ c := fun h0 => by
    rcases Nat.eq_zero_or_pos c with e | e
    · subst e; exact absurd (Nat.zero_mod C) h0
    · exact e
  refine CL_in (tb259 _) ml259 (by simp [lay]) ?_
  have hcase : dir = 0 ∨ dir = 1 ∨ dir = 2 ∨ dir = 3 := by omega
  rcases hcase with rfl | rfl | rfl | rfl
  · by_cases c0 : c / C = 0
    · have e : nbC R C c 0 = none := if_pos c0
      rw [e]
      simp (disch := omega) only [lays, lay, List.replicate, List.append_nil, i_op, o_int, o_long, o_flt, o_null, o_iadd, o_isub, o_imul, o_iand, o_ior, o_ixor, o_idiv, o_irem, o_ineg, o_ishl, o_ishr, o_iushr, o_ladd, o_lsub, o_lmul, o_land, o_lor, o_lxor, o_ldiv, o_lrem, o_lshl, o_lushr, o_lcmp, o_i2l, o_l2i, o_i2c, o_i2b, o_i2d, o_i2f, o_pop, o_dup, o_dup_x1, o_dup2, i_iload, i_lload, i_dload, i_aload, i_istore, i_astore, i_lstore, i_dstore, i_iinc, i_goto, i_ifeq, i_ifne, i_iflt, i_ifge, i_ifgt, i_ifle, i_ceq, i_cne, i_clt, i_cge, i_cgt, i_cle, i_null, i_nnull, i_aeq, i_ane, i_getf, i_putf, i_push, i_alen, i_iald, i_lald, i_aald, i_iast, i_last, i_aast, i_cast, i_inst, i_ret, i_iret, i_lret, i_aret, i_callS, i_callI, i_callV, i_callU, i_ulong, i_oinit, i_mmax, i_mmin, sto1, sto2, Value.category, List.getElem?_cons_zero, List.getElem?_cons_succ, List.drop_succ_cons, List.drop_zero, List.take_succ_cons, List.take_zero, List.reverse_cons, List.reverse_nil, List.nil_append, List.cons_append, List.length_cons, List.length_nil, List.set_cons_zero, List.set_cons_succ, List.lookup_cons, r259_0, r259_1, r259_2, r259_5, r259_6, r259_7, r259_8, r259_9, r259_12, r259_13, r259_15, r259_16, r259_44, r259_45, r259_48, r259_49, r259_52, r259_53, r259_54, r259_57, r259_58, r259_59, r259_61, r259_64, r259_65, r259_68, r259_69, r259_70, r259_71, r259_72, r259_74, r259_75, r259_76, r259_77, r259_80, r259_83, r259_84, r259_87, r259_88, r259_89, r259_90, r259_91, r259_92, r259_93, r259_94, r259_95, r259_98, r259_101, r259_102, r259_105, r259_106, r259_107, r259_110, r259_111, ↓reduceIte, Nat.lt_irrefl, eq_self, ne_eq, not_true_eq_false, q_in, q_nar, q_narZ0, q_narZ1, q_fitI, q_fitL, q_fitZ0, q_fitZ1, q_fitO, q_fitN, q_fitA, q_fitAN, q_clL, q_lt, q_eq, q_lt0, q_0lt, q_eq0, q_eqm, q_inc, q_add1, q_add, q_mul, q_sub, ofNat_nI, true_or, or_true, true_and, and_true, if_true, if_false, Nat.le_refl, Nat.zero_le, not_true_eq_false, not_false_eq_true, Nat.reduceMod, Nat.reduceLT, Nat.reduceLeDiff, Nat.reduceAdd, Nat.reduceEqDiff, Nat.reduceBEq, Nat.reduceSub, Nat.reduceMul, mh_m, mf0, mf1, mf2, mf3, mf4, mf5, mf6, mf7, mf8, mf9, mf10, mf11, mf12, mf13, mf14, mf15, mf16, mf17, mf18, mf19, mf20, mf21, mf22, mf23, mf24, mf25, mf26, mf27, mf28, mf29, mf30, mf31, mf32, mf33, mf34, mf35, mf36, mf37, mf38, mf39, mf40, mf41, mf42, mf43, mf44, mf45, mf46, mf47, mf48, mf49, mf50, mf51, mf52, mf53, mf54, mf55, mf56, mf57, mf58, mf59, mf60, mf61, mf62, mf63, mf64, mf65, mf66, ↓z_m, z0, z1, z2, z3, z4, z5, z6, z7, z8, z9, z10, z12, z13, z14, z15, z16, z20, z24, z31, z32, z48, z50, z56, z63, z100, z108, z114, z117, z127, z200, z255, z500, z720, z1000, z1001, z4101, z6561, z8202, z12345, z16383, z16384, z65535, z1000000, z1000000000, z1103515245, n_ltT, n_ltF, n_eqT, n_eqF, m_eq, m_eq2, m_lt, m_lt2, bI_t1, bI_f1, bI_e1, bI_e0, nI_NO, q_fz0, q_fz1, q_nz0, q_nz1, q_narZ, q_fitZ, oN_n, oN_s, ↓pk_rem', pk_div', Bool.true_eq_false, Bool.false_eq_true, Nat.not_lt_zero, Nat.add_zero, Nat.zero_add, h5, h6, i_tsw, ti0, ti1, ti2, ti3, ti4, Int.reduceLT, Int.reduceSub, Int.reduceToNat, or_false, false_or, c0, aPure, aQ]
    · have e : nbC R C c 0 = some (c - C) := if_neg c0
      have := hge c0
      rw [e]
      simp (disch := omega) only [lays, lay, List.replicate, List.append_nil, i_op, o_int, o_long, o_flt, o_null, o_iadd, o_isub, o_imul, o_iand, o_ior, o_ixor, o_idiv, o_irem, o_ineg, o_ishl, o_ishr, o_iushr, o_ladd, o_lsub, o_lmul, o_land, o_lor, o_lxor, o_ldiv, o_lrem, o_lshl, o_lushr, o_lcmp, o_i2l, o_l2i, o_i2c, o_i2b, o_i2d, o_i2f, o_pop, o_dup, o_dup_x1, o_dup2, i_iload, i_lload, i_dload, i_aload, i_istore, i_astore, i_lstore, i_dstore, i_iinc, i_goto, i_ifeq, i_ifne, i_iflt, i_ifge, i_ifgt, i_ifle, i_ceq, i_cne, i_clt, i_cge, i_cgt, i_cle, i_null, i_nnull, i_aeq, i_ane, i_getf, i_putf, i_push, i_alen, i_iald, i_lald, i_aald, i_iast, i_last, i_aast, i_cast, i_inst, i_ret, i_iret, i_lret, i_aret, i_callS, i_callI, i_callV, i_callU, i_ulong, i_oinit, i_mmax, i_mmin, sto1, sto2, Value.category, List.getElem?_cons_zero, List.getElem?_cons_succ, List.drop_succ_cons, List.drop_zero, List.take_succ_cons, List.take_zero, List.reverse_cons, List.reverse_nil, List.nil_append, List.cons_append, List.length_cons, List.length_nil, List.set_cons_zero, List.set_cons_succ, List.lookup_cons, r259_0, r259_1, r259_2, r259_5, r259_6, r259_7, r259_8, r259_9, r259_12, r259_13, r259_15, r259_16, r259_44, r259_45, r259_48, r259_49, r259_52, r259_53, r259_54, r259_57, r259_58, r259_59, r259_61, r259_64, r259_65, r259_68, r259_69, r259_70, r259_71, r259_72, r259_74, r259_75, r259_76, r259_77, r259_80, r259_83, r259_84, r259_87, r259_88, r259_89, r259_90, r259_91, r259_92, r259_93, r259_94, r259_95, r259_98, r259_101, r259_102, r259_105, r259_106, r259_107, r259_110, r259_111, ↓reduceIte, Nat.lt_irrefl, eq_self, ne_eq, not_true_eq_false, q_in, q_nar, q_narZ0, q_narZ1, q_fitI, q_fitL, q_fitZ0, q_fitZ1, q_fitO, q_fitN, q_fitA, q_fitAN, q_clL, q_lt, q_eq, q_lt0, q_0lt, q_eq0, q_eqm, q_inc, q_add1, q_add, q_mul, q_sub, ofNat_nI, true_or, or_true, true_and, and_true, if_true, if_false, Nat.le_refl, Nat.zero_le, not_true_eq_false, not_false_eq_true, Nat.reduceMod, Nat.reduceLT, Nat.reduceLeDiff, Nat.reduceAdd, Nat.reduceEqDiff, Nat.reduceBEq, Nat.reduceSub, Nat.reduceMul, mh_m, mf0, mf1, mf2, mf3, mf4, mf5, mf6, mf7, mf8, mf9, mf10, mf11, mf12, mf13, mf14, mf15, mf16, mf17, mf18, mf19, mf20, mf21, mf22, mf23, mf24, mf25, mf26, mf27, mf28, mf29, mf30, mf31, mf32, mf33, mf34, mf35, mf36, mf37, mf38, mf39, mf40, mf41, mf42, mf43, mf44, mf45, mf46, mf47, mf48, mf49, mf50, mf51, mf52, mf53, mf54, mf55, mf56, mf57, mf58, mf59, mf60, mf61, mf62, mf63, mf64, mf65, mf66, ↓z_m, z0, z1, z2, z3, z4, z5, z6, z7, z8, z9, z10, z12, z13, z14, z15, z16, z20, z24, z31, z32, z48, z50, z56, z63, z100, z108, z114, z117, z127, z200, z255, z500, z720, z1000, z1001, z4101, z6561, z8202, z12345, z16383, z16384, z65535, z1000000, z1000000000, z1103515245, n_ltT, n_ltF, n_eqT, n_eqF, m_eq, m_eq2, m_lt, m_lt2, bI_t1, bI_f1, bI_e1, bI_e0, nI_NO, q_fz0, q_fz1, q_nz0, q_nz1, q_narZ, q_fitZ, oN_n, oN_s, ↓pk_rem', pk_div', Bool.true_eq_false, Bool.false_eq_true, Nat.not_lt_zero, Nat.add_zero, Nat.zero_add, h5, h6, i_tsw, ti0, ti1, ti2, ti3, ti4, Int.reduceLT, Int.reduceSub, Int.reduceToNat, or_false, false_or, aPure, aQ, c0]
  · by_cases c0 : c % C = 0
    · have e : nbC R C c 1 = none := if_pos c0
      rw [e]
      simp (disch := omega) only [lays, lay, List.replicate, List.append_nil, i_op, o_int, o_long, o_flt, o_null, o_iadd, o_isub, o_imul, o_iand, o_ior, o_ixor, o_idiv, o_irem, o_ineg, o_ishl, o_ishr, o_iushr, o_ladd, o_lsub, o_lmul, o_land, o_lor, o_lxor, o_ldiv, o_lrem, o_lshl, o_lushr, o_lcmp, o_i2l, o_l2i, o_i2c, o_i2b, o_i2d, o_i2f, o_pop, o_dup, o_dup_x1, o_dup2, i_iload, i_lload, i_dload, i_aload, i_istore, i_astore, i_lstore, i_dstore, i_iinc, i_goto, i_ifeq, i_ifne, i_iflt, i_ifge, i_ifgt, i_ifle, i_ceq, i_cne, i_clt, i_cge, i_cgt, i_cle, i_null, i_nnull, i_aeq, i_ane, i_getf, i_putf, i_push, i_alen, i_iald, i_lald, i_aald, i_iast, i_last, i_aast, i_cast, i_inst, i_ret, i_iret, i_lret, i_aret, i_callS, i_callI, i_callV, i_callU, i_ulong, i_oinit, i_mmax, i_mmin, sto1, sto2, Value.category, List.getElem?_cons_zero, List.getElem?_cons_succ, List.drop_succ_cons, List.drop_zero, List.take_succ_cons, List.take_zero, List.reverse_cons, List.reverse_nil, List.nil_append, List.cons_append, List.length_cons, List.length_nil, List.set_cons_zero, List.set_cons_succ, List.lookup_cons, r259_0, r259_1, r259_2, r259_5, r259_6, r259_7, r259_8, r259_9, r259_12, r259_13, r259_15, r259_16, r259_44, r259_45, r259_48, r259_49, r259_52, r259_53, r259_54, r259_57, r259_58, r259_59, r259_61, r259_64, r259_65, r259_68, r259_69, r259_70, r259_71, r259_72, r259_74, r259_75, r259_76, r259_77, r259_80, r259_83, r259_84, r259_87, r259_88, r259_89, r259_90, r259_91, r259_92, r259_93, r259_94, r259_95, r259_98, r259_101, r259_102, r259_105, r259_106, r259_107, r259_110, r259_111, ↓reduceIte, Nat.lt_irrefl, eq_self, ne_eq, not_true_eq_false, q_in, q_nar, q_narZ0, q_narZ1, q_fitI, q_fitL, q_fitZ0, q_fitZ1, q_fitO, q_fitN, q_fitA, q_fitAN, q_clL, q_lt, q_eq, q_lt0, q_0lt, q_eq0, q_eqm, q_inc, q_add1, q_add, q_mul, q_sub, ofNat_nI, true_or, or_true, true_and, and_true, if_true, if_false, Nat.le_refl, Nat.zero_le, not_true_eq_false, not_false_eq_true, Nat.reduceMod, Nat.reduceLT, Nat.reduceLeDiff, Nat.reduceAdd, Nat.reduceEqDiff, Nat.reduceBEq, Nat.reduceSub, Nat.reduceMul, mh_m, mf0, mf1, mf2, mf3, mf4, mf5, mf6, mf7, mf8, mf9, mf10, mf11, mf12, mf13, mf14, mf15, mf16, mf17, mf18, mf19, mf20, mf21, mf22, mf23, mf24, mf25, mf26, mf27, mf28, mf29, mf30, mf31, mf32, mf33, mf34, mf35, mf36, mf37, mf38, mf39, mf40, mf41, mf42, mf43, mf44, mf45, mf46, mf47, mf48, mf49, mf50, mf51, mf52, mf53, mf54, mf55, mf56, mf57, mf58, mf59, mf60, mf61, mf62, mf63, mf64, mf65, mf66, ↓z_m, z0, z1, z2, z3, z4, z5, z6, z7, z8, z9, z10, z12, z13, z14, z15, z16, z20, z24, z31, z32, z48, z50, z56, z63, z100, z108, z114, z117, z127, z200, z255, z500, z720, z1000, z1001, z4101, z6561, z8202, z12345, z16383, z16384, z65535, z1000000, z1000000000, z1103515245, n_ltT, n_ltF, n_eqT, n_eqF, m_eq, m_eq2, m_lt, m_lt2, bI_t1, bI_f1, bI_e1, bI_e0, nI_NO, q_fz0, q_fz1, q_nz0, q_nz1, q_narZ, q_fitZ, oN_n, oN_s, ↓pk_rem', pk_div', Bool.true_eq_false, Bool.false_eq_true, Nat.not_lt_zero, Nat.add_zero, Nat.zero_add, h5, h6, i_tsw, ti0, ti1, ti2, ti3, ti4, Int.reduceLT, Int.reduceSub, Int.reduceToNat, or_false, false_or, c0, aPure, aQ]
    · have e : nbC R C c 1 = some (c - 1) := if_neg c0
      have := hge1 c0
      rw [e]
      simp (disch := omega) only [lays, lay, List.replicate, List.append_nil, i_op, o_int, o_long, o_flt, o_null, o_iadd, o_isub, o_imul, o_iand, o_ior, o_ixor, o_idiv, o_irem, o_ineg, o_ishl, o_ishr, o_iushr, o_ladd, o_lsub, o_lmul, o_land, o_lor, o_lxor, o_ldiv, o_lrem, o_lshl, o_lushr, o_lcmp, o_i2l, o_l2i, o_i2c, o_i2b, o_i2d, o_i2f, o_pop, o_dup, o_dup_x1, o_dup2, i_iload, i_lload, i_dload, i_aload, i_istore, i_astore, i_lstore, i_dstore, i_iinc, i_goto, i_ifeq, i_ifne, i_iflt, i_ifge, i_ifgt, i_ifle, i_ceq, i_cne, i_clt, i_cge, i_cgt, i_cle, i_null, i_nnull, i_aeq, i_ane, i_getf, i_putf, i_push, i_alen, i_iald, i_lald, i_aald, i_iast, i_last, i_aast, i_cast, i_inst, i_ret, i_iret, i_lret, i_aret, i_callS, i_callI, i_callV, i_callU, i_ulong, i_oinit, i_mmax, i_mmin, sto1, sto2, Value.category, List.getElem?_cons_zero, List.getElem?_cons_succ, List.drop_succ_cons, List.drop_zero, List.take_succ_cons, List.take_zero, List.reverse_cons, List.reverse_nil, List.nil_append, List.cons_append, List.length_cons, List.length_nil, List.set_cons_zero, List.set_cons_succ, List.lookup_cons, r259_0, r259_1, r259_2, r259_5, r259_6, r259_7, r259_8, r259_9, r259_12, r259_13, r259_15, r259_16, r259_44, r259_45, r259_48, r259_49, r259_52, r259_53, r259_54, r259_57, r259_58, r259_59, r259_61, r259_64, r259_65, r259_68, r259_69, r259_70, r259_71, r259_72, r259_74, r259_75, r259_76, r259_77, r259_80, r259_83, r259_84, r259_87, r259_88, r259_89, r259_90, r259_91, r259_92, r259_93, r259_94, r259_95, r259_98, r259_101, r259_102, r259_105, r259_106, r259_107, r259_110, r259_111, ↓reduceIte, Nat.lt_irrefl, eq_self, ne_eq, not_true_eq_false, q_in, q_nar, q_narZ0, q_narZ1, q_fitI, q_fitL, q_fitZ0, q_fitZ1, q_fitO, q_fitN, q_fitA, q_fitAN, q_clL, q_lt, q_eq, q_lt0, q_0lt, q_eq0, q_eqm, q_inc, q_add1, q_add, q_mul, q_sub, ofNat_nI, true_or, or_true, true_and, and_true, if_true, if_false, Nat.le_refl, Nat.zero_le, not_true_eq_false, not_false_eq_true, Nat.reduceMod, Nat.reduceLT, Nat.reduceLeDiff, Nat.reduceAdd, Nat.reduceEqDiff, Nat.reduceBEq, Nat.reduceSub, Nat.reduceMul, mh_m, mf0, mf1, mf2, mf3, mf4, mf5, mf6, mf7, mf8, mf9, mf10, mf11, mf12, mf13, mf14, mf15, mf16, mf17, mf18, mf19, mf20, mf21, mf22, mf23, mf24, mf25, mf26, mf27, mf28, mf29, mf30, mf31, mf32, mf33, mf34, mf35, mf36, mf37, mf38, mf39, mf40, mf41, mf42, mf43, mf44, mf45, mf46, mf47, mf48, mf49, mf50, mf51, mf52, mf53, mf54, mf55, mf56, mf57, mf58, mf59, mf60, mf61, mf62, mf63, mf64, mf65, mf66, ↓z_m, z0, z1, z2, z3, z4, z5, z6, z7, z8, z9, z10, z12, z13, z14, z15, z16, z20, z24, z31, z32, z48, z50, z56, z63, z100, z108, z114, z117, z127, z200, z255, z500, z720, z1000, z1001, z4101, z6561, z8202, z12345, z16383, z16384, z65535, z1000000, z1000000000, z1103515245, n_ltT, n_ltF, n_eqT, n_eqF, m_eq, m_eq2, m_lt, m_lt2, bI_t1, bI_f1, bI_e1, bI_e0, nI_NO, q_fz0, q_fz1, q_nz0, q_nz1, q_narZ, q_fitZ, oN_n, oN_s, ↓pk_rem', pk_div', Bool.true_eq_false, Bool.false_eq_true, Nat.not_lt_zero, Nat.add_zero, Nat.zero_add, h5, h6, i_tsw, ti0, ti1, ti2, ti3, ti4, Int.reduceLT, Int.reduceSub, Int.reduceToNat, or_false, false_or, aPure, aQ, c0]
  · by_cases c0 : c % C + 1 = C
    · have e : nbC R C c 2 = none := if_pos c0
      rw [e]
      simp (disch := omega) only [lays, lay, List.replicate, List.append_nil, i_op, o_int, o_long, o_flt, o_null, o_iadd, o_isub, o_imul, o_iand, o_ior, o_ixor, o_idiv, o_irem, o_ineg, o_ishl, o_ishr, o_iushr, o_ladd, o_lsub, o_lmul, o_land, o_lor, o_lxor, o_ldiv, o_lrem, o_lshl, o_lushr, o_lcmp, o_i2l, o_l2i, o_i2c, o_i2b, o_i2d, o_i2f, o_pop, o_dup, o_dup_x1, o_dup2, i_iload, i_lload, i_dload, i_aload, i_istore, i_astore, i_lstore, i_dstore, i_iinc, i_goto, i_ifeq, i_ifne, i_iflt, i_ifge, i_ifgt, i_ifle, i_ceq, i_cne, i_clt, i_cge, i_cgt, i_cle, i_null, i_nnull, i_aeq, i_ane, i_getf, i_putf, i_push, i_alen, i_iald, i_lald, i_aald, i_iast, i_last, i_aast, i_cast, i_inst, i_ret, i_iret, i_lret, i_aret, i_callS, i_callI, i_callV, i_callU, i_ulong, i_oinit, i_mmax, i_mmin, sto1, sto2, Value.category, List.getElem?_cons_zero, List.getElem?_cons_succ, List.drop_succ_cons, List.drop_zero, List.take_succ_cons, List.take_zero, List.reverse_cons, List.reverse_nil, List.nil_append, List.cons_append, List.length_cons, List.length_nil, List.set_cons_zero, List.set_cons_succ, List.lookup_cons, r259_0, r259_1, r259_2, r259_5, r259_6, r259_7, r259_8, r259_9, r259_12, r259_13, r259_15, r259_16, r259_44, r259_45, r259_48, r259_49, r259_52, r259_53, r259_54, r259_57, r259_58, r259_59, r259_61, r259_64, r259_65, r259_68, r259_69, r259_70, r259_71, r259_72, r259_74, r259_75, r259_76, r259_77, r259_80, r259_83, r259_84, r259_87, r259_88, r259_89, r259_90, r259_91, r259_92, r259_93, r259_94, r259_95, r259_98, r259_101, r259_102, r259_105, r259_106, r259_107, r259_110, r259_111, ↓reduceIte, Nat.lt_irrefl, eq_self, ne_eq, not_true_eq_false, q_in, q_nar, q_narZ0, q_narZ1, q_fitI, q_fitL, q_fitZ0, q_fitZ1, q_fitO, q_fitN, q_fitA, q_fitAN, q_clL, q_lt, q_eq, q_lt0, q_0lt, q_eq0, q_eqm, q_inc, q_add1, q_add, q_mul, q_sub, ofNat_nI, true_or, or_true, true_and, and_true, if_true, if_false, Nat.le_refl, Nat.zero_le, not_true_eq_false, not_false_eq_true, Nat.reduceMod, Nat.reduceLT, Nat.reduceLeDiff, Nat.reduceAdd, Nat.reduceEqDiff, Nat.reduceBEq, Nat.reduceSub, Nat.reduceMul, mh_m, mf0, mf1, mf2, mf3, mf4, mf5, mf6, mf7, mf8, mf9, mf10, mf11, mf12, mf13, mf14, mf15, mf16, mf17, mf18, mf19, mf20, mf21, mf22, mf23, mf24, mf25, mf26, mf27, mf28, mf29, mf30, mf31, mf32, mf33, mf34, mf35, mf36, mf37, mf38, mf39, mf40, mf41, mf42, mf43, mf44, mf45, mf46, mf47, mf48, mf49, mf50, mf51, mf52, mf53, mf54, mf55, mf56, mf57, mf58, mf59, mf60, mf61, mf62, mf63, mf64, mf65, mf66, ↓z_m, z0, z1, z2, z3, z4, z5, z6, z7, z8, z9, z10, z12, z13, z14, z15, z16, z20, z24, z31, z32, z48, z50, z56, z63, z100, z108, z114, z117, z127, z200, z255, z500, z720, z1000, z1001, z4101, z6561, z8202, z12345, z16383, z16384, z65535, z1000000, z1000000000, z1103515245, n_ltT, n_ltF, n_eqT, n_eqF, m_eq, m_eq2, m_lt, m_lt2, bI_t1, bI_f1, bI_e1, bI_e0, nI_NO, q_fz0, q_fz1, q_nz0, q_nz1, q_narZ, q_fitZ, oN_n, oN_s, ↓pk_rem', pk_div', Bool.true_eq_false, Bool.false_eq_true, Nat.not_lt_zero, Nat.add_zero, Nat.zero_add, h5, h6, i_tsw, ti0, ti1, ti2, ti3, ti4, Int.reduceLT, Int.reduceSub, Int.reduceToNat, or_false, false_or, aPure, aQ]
    · have e : nbC R C c 2 = some (c + 1) := if_neg c0
      rw [e]
      simp (disch := omega) only [lays, lay, List.replicate, List.append_nil, i_op, o_int, o_long, o_flt, o_null, o_iadd, o_isub, o_imul, o_iand, o_ior, o_ixor, o_idiv, o_irem, o_ineg, o_ishl, o_ishr, o_iushr, o_ladd, o_lsub, o_lmul, o_land, o_lor, o_lxor, o_ldiv, o_lrem, o_lshl, o_lushr, o_lcmp, o_i2l, o_l2i, o_i2c, o_i2b, o_i2d, o_i2f, o_pop, o_dup, o_dup_x1, o_dup2, i_iload, i_lload, i_dload, i_aload, i_istore, i_astore, i_lstore, i_dstore, i_iinc, i_goto, i_ifeq, i_ifne, i_iflt, i_ifge, i_ifgt, i_ifle, i_ceq, i_cne, i_clt, i_cge, i_cgt, i_cle, i_null, i_nnull, i_aeq, i_ane, i_getf, i_putf, i_push, i_alen, i_iald, i_lald, i_aald, i_iast, i_last, i_aast, i_cast, i_inst, i_ret, i_iret, i_lret, i_aret, i_callS, i_callI, i_callV, i_callU, i_ulong, i_oinit, i_mmax, i_mmin, sto1, sto2, Value.category, List.getElem?_cons_zero, List.getElem?_cons_succ, List.drop_succ_cons, List.drop_zero, List.take_succ_cons, List.take_zero, List.reverse_cons, List.reverse_nil, List.nil_append, List.cons_append, List.length_cons, List.length_nil, List.set_cons_zero, List.set_cons_succ, List.lookup_cons, r259_0, r259_1, r259_2, r259_5, r259_6, r259_7, r259_8, r259_9, r259_12, r259_13, r259_15, r259_16, r259_44, r259_45, r259_48, r259_49, r259_52, r259_53, r259_54, r259_57, r259_58, r259_59, r259_61, r259_64, r259_65, r259_68, r259_69, r259_70, r259_71, r259_72, r259_74, r259_75, r259_76, r259_77, r259_80, r259_83, r259_84, r259_87, r259_88, r259_89, r259_90, r259_91, r259_92, r259_93, r259_94, r259_95, r259_98, r259_101, r259_102, r259_105, r259_106, r259_107, r259_110, r259_111, ↓reduceIte, Nat.lt_irrefl, eq_self, ne_eq, not_true_eq_false, q_in, q_nar, q_narZ0, q_narZ1, q_fitI, q_fitL, q_fitZ0, q_fitZ1, q_fitO, q_fitN, q_fitA, q_fitAN, q_clL, q_lt, q_eq, q_lt0, q_0lt, q_eq0, q_eqm, q_inc, q_add1, q_add, q_mul, q_sub, ofNat_nI, true_or, or_true, true_and, and_true, if_true, if_false, Nat.le_refl, Nat.zero_le, not_true_eq_false, not_false_eq_true, Nat.reduceMod, Nat.reduceLT, Nat.reduceLeDiff, Nat.reduceAdd, Nat.reduceEqDiff, Nat.reduceBEq, Nat.reduceSub, Nat.reduceMul, mh_m, mf0, mf1, mf2, mf3, mf4, mf5, mf6, mf7, mf8, mf9, mf10, mf11, mf12, mf13, mf14, mf15, mf16, mf17, mf18, mf19, mf20, mf21, mf22, mf23, mf24, mf25, mf26, mf27, mf28, mf29, mf30, mf31, mf32, mf33, mf34, mf35, mf36, mf37, mf38, mf39, mf40, mf41, mf42, mf43, mf44, mf45, mf46, mf47, mf48, mf49, mf50, mf51, mf52, mf53, mf54, mf55, mf56, mf57, mf58, mf59, mf60, mf61, mf62, mf63, mf64, mf65, mf66, ↓z_m, z0, z1, z2, z3, z4, z5, z6, z7, z8, z9, z10, z12, z13, z14, z15, z16, z20, z24, z31, z32, z48, z50, z56, z63, z100, z108, z114, z117, z127, z200, z255, z500, z720, z1000, z1001, z4101, z6561, z8202, z12345, z16383, z16384, z65535, z1000000, z1000000000, z1103515245, n_ltT, n_ltF, n_eqT, n_eqF, m_eq, m_eq2, m_lt, m_lt2, bI_t1, bI_f1, bI_e1, bI_e0, nI_NO, q_fz0, q_fz1, q_nz0, q_nz1, q_narZ, q_fitZ, oN_n, oN_s, ↓pk_rem', pk_div', Bool.true_eq_false, Bool.false_eq_true, Nat.not_lt_zero, Nat.add_zero, Nat.zero_add, h5, h6, i_tsw, ti0, ti1, ti2, ti3, ti4, Int.reduceLT, Int.reduceSub, Int.reduceToNat, or_false, false_or, aPure, aQ]
  · by_cases c0 : c / C + 1 = R
    · have e : nbC R C c 3 = none := if_pos c0
      rw [e]
      simp (disch := omega) only [lays, lay, List.replicate, List.append_nil, i_op, o_int, o_long, o_flt, o_null, o_iadd, o_isub, o_imul, o_iand, o_ior, o_ixor, o_idiv, o_irem, o_ineg, o_ishl, o_ishr, o_iushr, o_ladd, o_lsub, o_lmul, o_land, o_lor, o_lxor, o_ldiv, o_lrem, o_lshl, o_lushr, o_lcmp, o_i2l, o_l2i, o_i2c, o_i2b, o_i2d, o_i2f, o_pop, o_dup, o_dup_x1, o_dup2, i_iload, i_lload, i_dload, i_aload, i_istore, i_astore, i_lstore, i_dstore, i_iinc, i_goto, i_ifeq, i_ifne, i_iflt, i_ifge, i_ifgt, i_ifle, i_ceq, i_cne, i_clt, i_cge, i_cgt, i_cle, i_null, i_nnull, i_aeq, i_ane, i_getf, i_putf, i_push, i_alen, i_iald, i_lald, i_aald, i_iast, i_last, i_aast, i_cast, i_inst, i_ret, i_iret, i_lret, i_aret, i_callS, i_callI, i_callV, i_callU, i_ulong, i_oinit, i_mmax, i_mmin, sto1, sto2, Value.category, List.getElem?_cons_zero, List.getElem?_cons_succ, List.drop_succ_cons, List.drop_zero, List.take_succ_cons, List.take_zero, List.reverse_cons, List.reverse_nil, List.nil_append, List.cons_append, List.length_cons, List.length_nil, List.set_cons_zero, List.set_cons_succ, List.lookup_cons, r259_0, r259_1, r259_2, r259_5, r259_6, r259_7, r259_8, r259_9, r259_12, r259_13, r259_15, r259_16, r259_44, r259_45, r259_48, r259_49, r259_52, r259_53, r259_54, r259_57, r259_58, r259_59, r259_61, r259_64, r259_65, r259_68, r259_69, r259_70, r259_71, r259_72, r259_74, r259_75, r259_76, r259_77, r259_80, r259_83, r259_84, r259_87, r259_88, r259_89, r259_90, r259_91, r259_92, r259_93, r259_94, r259_95, r259_98, r259_101, r259_102, r259_105, r259_106, r259_107, r259_110, r259_111, ↓reduceIte, Nat.lt_irrefl, eq_self, ne_eq, not_true_eq_false, q_in, q_nar, q_narZ0, q_narZ1, q_fitI, q_fitL, q_fitZ0, q_fitZ1, q_fitO, q_fitN, q_fitA, q_fitAN, q_clL, q_lt, q_eq, q_lt0, q_0lt, q_eq0, q_eqm, q_inc, q_add1, q_add, q_mul, q_sub, ofNat_nI, true_or, or_true, true_and, and_true, if_true, if_false, Nat.le_refl, Nat.zero_le, not_true_eq_false, not_false_eq_true, Nat.reduceMod, Nat.reduceLT, Nat.reduceLeDiff, Nat.reduceAdd, Nat.reduceEqDiff, Nat.reduceBEq, Nat.reduceSub, Nat.reduceMul, mh_m, mf0, mf1, mf2, mf3, mf4, mf5, mf6, mf7, mf8, mf9, mf10, mf11, mf12, mf13, mf14, mf15, mf16, mf17, mf18, mf19, mf20, mf21, mf22, mf23, mf24, mf25, mf26, mf27, mf28, mf29, mf30, mf31, mf32, mf33, mf34, mf35, mf36, mf37, mf38, mf39, mf40, mf41, mf42, mf43, mf44, mf45, mf46, mf47, mf48, mf49, mf50, mf51, mf52, mf53, mf54, mf55, mf56, mf57, mf58, mf59, mf60, mf61, mf62, mf63, mf64, mf65, mf66, ↓z_m, z0, z1, z2, z3, z4, z5, z6, z7, z8, z9, z10, z12, z13, z14, z15, z16, z20, z24, z31, z32, z48, z50, z56, z63, z100, z108, z114, z117, z127, z200, z255, z500, z720, z1000, z1001, z4101, z6561, z8202, z12345, z16383, z16384, z65535, z1000000, z1000000000, z1103515245, n_ltT, n_ltF, n_eqT, n_eqF, m_eq, m_eq2, m_lt, m_lt2, bI_t1, bI_f1, bI_e1, bI_e0, nI_NO, q_fz0, q_fz1, q_nz0, q_nz1, q_narZ, q_fitZ, oN_n, oN_s, ↓pk_rem', pk_div', Bool.true_eq_false, Bool.false_eq_true, Nat.not_lt_zero, Nat.add_zero, Nat.zero_add, h5, h6, i_tsw, ti0, ti1, ti2, ti3, ti4, Int.reduceLT, Int.reduceSub, Int.reduceToNat, or_false, false_or, aPure, aQ]
    · have e : nbC R C c 3 = some (c + C) := if_neg c0
      rw [e]
      simp (disch := omega) only [lays, lay, List.replicate, List.append_nil, i_op, o_int, o_long, o_flt, o_null, o_iadd, o_isub, o_imul, o_iand, o_ior, o_ixor, o_idiv, o_irem, o_ineg, o_ishl, o_ishr, o_iushr, o_ladd, o_lsub, o_lmul, o_land, o_lor, o_lxor, o_ldiv, o_lrem, o_lshl, o_lushr, o_lcmp, o_i2l, o_l2i, o_i2c, o_i2b, o_i2d, o_i2f, o_pop, o_dup, o_dup_x1, o_dup2, i_iload, i_lload, i_dload, i_aload, i_istore, i_astore, i_lstore, i_dstore, i_iinc, i_goto, i_ifeq, i_ifne, i_iflt, i_ifge, i_ifgt, i_ifle, i_ceq, i_cne, i_clt, i_cge, i_cgt, i_cle, i_null, i_nnull, i_aeq, i_ane, i_getf, i_putf, i_push, i_alen, i_iald, i_lald, i_aald, i_iast, i_last, i_aast, i_cast, i_inst, i_ret, i_iret, i_lret, i_aret, i_callS, i_callI, i_callV, i_callU, i_ulong, i_oinit, i_mmax, i_mmin, sto1, sto2, Value.category, List.getElem?_cons_zero, List.getElem?_cons_succ, List.drop_succ_cons, List.drop_zero, List.take_succ_cons, List.take_zero, List.reverse_cons, List.reverse_nil, List.nil_append, List.cons_append, List.length_cons, List.length_nil, List.set_cons_zero, List.set_cons_succ, List.lookup_cons, r259_0, r259_1, r259_2, r259_5, r259_6, r259_7, r259_8, r259_9, r259_12, r259_13, r259_15, r259_16, r259_44, r259_45, r259_48, r259_49, r259_52, r259_53, r259_54, r259_57, r259_58, r259_59, r259_61, r259_64, r259_65, r259_68, r259_69, r259_70, r259_71, r259_72, r259_74, r259_75, r259_76, r259_77, r259_80, r259_83, r259_84, r259_87, r259_88, r259_89, r259_90, r259_91, r259_92, r259_93, r259_94, r259_95, r259_98, r259_101, r259_102, r259_105, r259_106, r259_107, r259_110, r259_111, ↓reduceIte, Nat.lt_irrefl, eq_self, ne_eq, not_true_eq_false, q_in, q_nar, q_narZ0, q_narZ1, q_fitI, q_fitL, q_fitZ0, q_fitZ1, q_fitO, q_fitN, q_fitA, q_fitAN, q_clL, q_lt, q_eq, q_lt0, q_0lt, q_eq0, q_eqm, q_inc, q_add1, q_add, q_mul, q_sub, ofNat_nI, true_or, or_true, true_and, and_true, if_true, if_false, Nat.le_refl, Nat.zero_le, not_true_eq_false, not_false_eq_true, Nat.reduceMod, Nat.reduceLT, Nat.reduceLeDiff, Nat.reduceAdd, Nat.reduceEqDiff, Nat.reduceBEq, Nat.reduceSub, Nat.reduceMul, mh_m, mf0, mf1, mf2, mf3, mf4, mf5, mf6, mf7, mf8, mf9, mf10, mf11, mf12, mf13, mf14, mf15, mf16, mf17, mf18, mf19, mf20, mf21, mf22, mf23, mf24, mf25, mf26, mf27, mf28, mf29, mf30, mf31, mf32, mf33, mf34, mf35, mf36, mf37, mf38, mf39, mf40, mf41, mf42, mf43, mf44, mf45, mf46, mf47, mf48, mf49, mf50, mf51, mf52, mf53, mf54, mf55, mf56, mf57, mf58, mf59, mf60, mf61, mf62, mf63, mf64, mf65, mf66, ↓z_m, z0, z1, z2, z3, z4, z5, z6, z7, z8, z9, z10, z12, z13, z14, z15, z16, z20, z24, z31, z32, z48, z50, z56, z63, z100, z108, z114, z117, z127, z200, z255, z500, z720, z1000, z1001, z4101, z6561, z8202, z12345, z16383, z16384, z65535, z1000000, z1000000000, z1103515245, n_ltT, n_ltF, n_eqT, n_eqF, m_eq, m_eq2, m_lt, m_lt2, bI_t1, bI_f1, bI_e1, bI_e0, nI_NO, q_fz0, q_fz1, q_nz0, q_nz1, q_narZ, q_fitZ, oN_n, oN_s, ↓pk_rem', pk_div', Bool.true_eq_false, Bool.false_eq_true, Nat.not_lt_zero, Nat.add_zero, Nat.zero_add, h5, h6, i_tsw, ti0, ti1, ti2, ti3, ti4, Int.reduceLT, Int.reduceSub, Int.reduceToNat, or_false, false_or, aPure, aQ]
