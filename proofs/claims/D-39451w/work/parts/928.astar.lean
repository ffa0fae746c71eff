/-! THE MODEL's methods: best first; the pure run aRun -/
set_option maxRecDepth 100000
/-- the states of Q (rows in field 34) as those of Q' (row i is field 1000 + i) -/
def QE (n : Nat) (Q Q' : nS) : Prop := Q 42 0 = Q' 42 0 ∧ ∀ i, i < Q 42 0 → Q 35 i = Q' 35 i ∧ Q 36 i = Q' 36 i ∧ Q 37 i = Q' 37 i ∧ Q 38 i = Q' 38 i ∧ Q 41 i = Q' 41 i ∧ Q 40 i = Q' 40 i ∧ ∀ k, k < n → tr Q i k = Q' (1000 + i) k
def SQ (n : Nat) (S : mS) (L : Nat → Int64) (Q : nS) (B : Nat → Nat) : Prop := S 42 0 = nI (Q 42 0) ∧ (∀ i, i < Q 42 0 → S 35 i = nI (Q 35 i) ∧ S 36 i = nI (Q 36 i) ∧ S 37 i = nI (Q 37 i) ∧ S 38 i = nI (Q 38 i) ∧ S 41 i = nI (Q 41 i) ∧ L i = lN (Q 40 i) ∧ ∀ k, k < n → S 34 (16 * i + k) = nI (Q (1000 + i) k)) ∧ ∀ i, S 39 i = nI (B i)
theorem nI_sur (x : Int32) : nI x.toBitVec.toNat = x := Int32.toBitVec_inj.mp (by show BitVec.ofNat 32 _ = _; simp)
theorem lN_sur (x : Int64) : lN x.toBitVec.toNat = x := Int64.toBitVec_inj.mp (by show BitVec.ofNat 64 _ = _; simp)
theorem SQ.tot {n : Nat} {S : mS} {L : Nat → Int64} {Q : nS} {B : Nat → Nat} (hn : n ≤ 16) (h : SQ n S L Q B) : ∃ Qj, ST S L Qj B ∧ QE n Qj Q := by
  obtain ⟨h1, h2, h3⟩ := h
  refine ⟨fun k i => if k = 42 then (if i = 0 then Q 42 0 else (S 42 i).toBitVec.toNat) else if k = 40 then (if i < Q 42 0 then Q 40 i else (L i).toBitVec.toNat) else if k = 34 then (if i / 16 < Q 42 0 ∧ i % 16 < n then Q (1000 + i / 16) (i % 16) else (S 34 i).toBitVec.toNat) else if i < Q 42 0 then Q k i else (S k i).toBitVec.toNat, ⟨fun k hk i => ?_, fun i => ?_, h3⟩, by simp, fun i hi => ?_⟩
  · by_cases c : k = 42
    · subst c
      simp only [if_true]
      by_cases ci : i = 0
      · subst ci; simp only [if_true]; exact h1
      · simp only [if_neg ci]; exact (nI_sur _).symm
    · by_cases c2 : k = 40
      · subst c2; exact absurd hk (by decide)
      · by_cases c3 : k = 34
        · subst c3
          simp only [c, c2, if_false, if_true]
          by_cases ci : i / 16 < Q 42 0 ∧ i % 16 < n
          · rw [if_pos ci]
            have := (h2 (i / 16) ci.1).2.2.2.2.2.2 (i % 16) ci.2
            rw [show 16 * (i / 16) + i % 16 = i by omega] at this
            exact this
          · rw [if_neg ci]; exact (nI_sur _).symm
        · simp only [c, c2, c3, if_false]
          by_cases ci : i < Q 42 0
          · rw [if_pos ci]
            have hh := h2 i ci
            have hk2 : k = 35 ∨ k = 36 ∨ k = 37 ∨ k = 38 ∨ k = 41 := by
              have := of_decide_eq_true hk
              omega
            rcases hk2 with rfl | rfl | rfl | rfl | rfl
            · exact hh.1
            · exact hh.2.1
            · exact hh.2.2.1
            · exact hh.2.2.2.1
            · exact hh.2.2.2.2.1
          · rw [if_neg ci]; exact (nI_sur _).symm
  · simp only [show ¬ (40 : Nat) = 42 by decide, if_false, if_true]
    by_cases ci : i < Q 42 0
    · rw [if_pos ci]; exact (h2 i ci).2.2.2.2.2.1
    · rw [if_neg ci]; exact (lN_sur _).symm
  · simp only [if_true] at hi
    refine ⟨by simp [hi], by simp [hi], by simp [hi], by simp [hi], by simp [hi], by simp [hi], fun k hk => ?_⟩
    have e1 : (16 * i + k) / 16 = i := by omega
    have e2 : (16 * i + k) % 16 = k := by omega
    unfold tr
    simp only [show ¬ (34 : Nat) = 42 by decide, show ¬ (34 : Nat) = 40 by decide, if_false, if_true, e1, e2, hi, hk, true_and]
theorem ST.sq {n : Nat} {S : mS} {L : Nat → Int64} {Q Qj : nS} {B : Nat → Nat} (h : ST S L Qj B) (hE : QE n Qj Q) : SQ n S L Q B := by
  refine ⟨by rw [h.1 42 rfl, hE.1], fun i hi => ?_, h.2.2⟩
  rw [← hE.1] at hi
  obtain ⟨e1, e2, e3, e4, e5, e6, e7⟩ := hE.2 i hi
  refine ⟨by rw [h.1 35 rfl, e1], by rw [h.1 36 rfl, e2], by rw [h.1 37 rfl, e3], by rw [h.1 38 rfl, e4], by rw [h.1 41 rfl, e5], by rw [h.2.1, e6], fun k hk => ?_⟩
  rw [← e7 k hk, h.1 34 rfl]
  rfl
theorem HT.qe {Q Q' : nS} {B : Nat → Nat} (h : HT Q B) (h42 : Q 42 0 = Q' 42 0) (hr : ∀ i, i < Q 42 0 → Q 40 i = Q' 40 i) : HT Q' B := by
  obtain ⟨a1, a2, a3, a4, a5, a6⟩ := h
  unfold HT
  rw [← h42]
  refine ⟨a1, a2, a3, fun i hi => ?_, fun i i' hi hi' he => ?_, fun i hi => ?_⟩
  · rw [← hr i hi]; exact a4 i hi
  · rw [← hr i hi, ← hr i' hi'] at he; exact a5 i i' hi hi' he
  · rw [← hr i hi]; exact a6 i hi
theorem fiK_qe {n : Nat} {Q Q' : nS} (hE : QE n Q Q') (R : Nat) : fiK (Q 40) R (Q 42 0) = fiK (Q' 40) R (Q' 42 0) := by
  rw [← hE.1]
  have : ∀ k, k ≤ Q 42 0 → fiK (Q 40) R k = fiK (Q' 40) R k := by
    intro k
    induction k with
    | zero => intro _; rfl
    | succ k ih =>
      intro hk
      unfold fiK
      rw [(hE.2 k hk).2.2.2.2.2.1, ih (by omega)]
  exact this _ (Nat.le_refl _)
/-- a new state, its row as field 1000 + its number -/
def newP (N : nS) (e : Nat) (t : Nat → Nat) (P : nS) : nS := fun k i => if k = 1000 + P 42 0 then t i else if k = 42 then (if i = 0 then P 42 0 + 1 else P 42 i) else if i = P 42 0 ∧ k < 1000 then (if k = 40 then rkN (N 7 0) t else if k = 35 then 1000000000 else if k = 36 then hE N t e else if k = 41 then 0 else P k i) else P k i
def fndP (N : nS) (e : Nat) (t : Nat → Nat) (P : nS) : nS := match fiK (P 40) (rkN (N 7 0) t) (P 42 0) with
  | some _ => P
  | none => newP N e t P
def findP (N : nS) (e : Nat) (t : Nat → Nat) (c fr dr : Nat) (P : nS) : nS := costQ (fndP N e t P) (fndI N t P) c fr dr
theorem findQ_n {N : nS} {e : Nat} {t : Nat → Nat} {c fr dr : Nat} {Q : nS} (hc : c < 1000000000) (hf : fiK (Q 40) (rkN (N 7 0) t) (Q 42 0) = none) : findQ N e t c fr dr Q = qu (qu (qu (newQ N e t Q) 35 (Q 42 0) c) 37 (Q 42 0) fr) 38 (Q 42 0) dr ∧ fndI N t Q = Q 42 0 := by
  unfold findQ fndQ fndI
  rw [hf]
  refine ⟨?_, rfl⟩
  simp only []
  unfold costQ
  rw [newQ_35, if_pos rfl, if_pos hc]
theorem findQ_s {N : nS} {e : Nat} {t : Nat → Nat} {c fr dr i : Nat} {Q : nS} (hf : fiK (Q 40) (rkN (N 7 0) t) (Q 42 0) = some i) : findQ N e t c fr dr Q = costQ Q i c fr dr ∧ fndI N t Q = i := by
  unfold findQ fndQ fndI
  rw [hf]
  exact ⟨rfl, rfl⟩
theorem qu_tr {Q : nS} {k i v : Nat} (hk : k ≠ 34) (j : Nat) : tr (qu Q k i v) j = tr Q j := by
  funext x
  unfold tr
  rw [qu_ne Q (fun e => hk e.symm)]
theorem findP_s {N : nS} {e : Nat} {t : Nat → Nat} {c fr dr i : Nat} {P : nS} (hf : fiK (P 40) (rkN (N 7 0) t) (P 42 0) = some i) : findP N e t c fr dr P = costQ P i c fr dr ∧ fndI N t P = i := by
  unfold findP fndP fndI
  rw [hf]
  exact ⟨rfl, rfl⟩
/-- a new state with its cost -/
def addP (N : nS) (e : Nat) (t : Nat → Nat) (c fr dr : Nat) (P : nS) : nS := fun k i => if k = 1000 + P 42 0 then t i else if k = 42 then (if i = 0 then P 42 0 + 1 else P 42 i) else if i = P 42 0 ∧ k < 1000 then (if k = 40 then rkN (N 7 0) t else if k = 35 then c else if k = 36 then hE N t e else if k = 37 then fr else if k = 38 then dr else if k = 41 then 0 else P k i) else P k i
theorem findP_n {N : nS} {e : Nat} {t : Nat → Nat} {c fr dr : Nat} {P : nS} (hc : c < 1000000000) (hf : fiK (P 40) (rkN (N 7 0) t) (P 42 0) = none) : findP N e t c fr dr P = addP N e t c fr dr P ∧ fndI N t P = P 42 0 := by
  unfold findP fndP fndI
  rw [hf]
  refine ⟨?_, rfl⟩
  simp only []
  unfold costQ
  have e35 : newP N e t P 35 (P 42 0) = 1000000000 := by
    simp [newP]
    intro z
    omega
  rw [e35, if_pos hc]
  funext k i
  unfold qu newP addP
  by_cases c1 : k = 1000 + P 42 0
  · subst c1
    rw [if_neg (by omega), if_neg (by omega), if_neg (by omega), if_pos rfl, if_pos rfl]
  · by_cases c2 : k = 42
    · subst c2; simp
    · by_cases c3 : i = P 42 0
      · by_cases c4 : k < 1000
        · by_cases k38 : k = 38
          · subst k38; simp [c3]; intro z; omega
          · by_cases k37 : k = 37
            · subst k37; simp [c3]; intro z; omega
            · by_cases k35 : k = 35
              · subst k35; simp [c3]; intro z; omega
              · simp [c1, c2, c3, c4, k38, k37, k35]
        · have : k ≠ 38 := by omega
          have : k ≠ 37 := by omega
          have : k ≠ 35 := by omega
          simp [*]
      · simp [c1, c2, c3]
theorem addP_o {N : nS} {e : Nat} {t : Nat → Nat} {c fr dr : Nat} {P : nS} {k j : Nat} (hk : k ≠ 42) (hk2 : k < 1000) (hj : j < P 42 0) : addP N e t c fr dr P k j = P k j := by
  unfold addP
  rw [if_neg (by omega), if_neg hk, if_neg (by omega)]
theorem addP_r {N : nS} {e : Nat} {t : Nat → Nat} {c fr dr : Nat} {P : nS} {j : Nat} (hj : j < P 42 0) : addP N e t c fr dr P (1000 + j) = P (1000 + j) := by
  funext x
  unfold addP
  rw [if_neg (by omega), if_neg (by omega), if_neg (by omega)]
theorem addP_n {N : nS} {e : Nat} {t : Nat → Nat} {c fr dr : Nat} {P : nS} : addP N e t c fr dr P 42 0 = P 42 0 + 1 ∧ addP N e t c fr dr P (1000 + P 42 0) = t ∧ addP N e t c fr dr P 40 (P 42 0) = rkN (N 7 0) t ∧ addP N e t c fr dr P 35 (P 42 0) = c ∧ addP N e t c fr dr P 36 (P 42 0) = hE N t e ∧ addP N e t c fr dr P 37 (P 42 0) = fr ∧ addP N e t c fr dr P 38 (P 42 0) = dr ∧ addP N e t c fr dr P 41 (P 42 0) = 0 := by
  have h1 : ∀ k, k < 1000 → ¬ k = 1000 + P 42 0 := fun k hk => by omega
  refine ⟨?_, ?_, ?_, ?_, ?_, ?_, ?_, ?_⟩
  · unfold addP; rw [if_neg (h1 42 (by decide)), if_pos rfl, if_pos rfl]
  · funext x; unfold addP; rw [if_pos rfl]
  all_goals (unfold addP; rw [if_neg (h1 _ (by decide)), if_neg (by decide), if_pos ⟨rfl, by decide⟩]; rfl)
theorem QE.cost {n : Nat} {Q Q' : nS} (hE : QE n Q Q') {j : Nat} (hj : j < Q 42 0) (c fr dr : Nat) : QE n (costQ Q j c fr dr) (costQ Q' j c fr dr) := by
  have h35 := (hE.2 j hj).1
  unfold costQ
  rw [← h35]
  by_cases cl : c < Q 35 j
  · rw [if_pos cl, if_pos cl]
    refine ⟨by simp only [qu]; exact hE.1, fun i hi => ?_⟩
    have hi : i < Q 42 0 := by simp only [qu] at hi; exact hi
    obtain ⟨e1, e2, e3, e4, e5, e6, e7⟩ := hE.2 i hi
    refine ⟨?_, ?_, ?_, ?_, ?_, ?_, fun k hk => ?_⟩
    · simp [qu, e1]
    · simp [qu, e2]
    · simp [qu, e3]
    · simp [qu, e4]
    · simp [qu, e5]
    · simp [qu, e6]
    · rw [qu_tr (by decide), qu_tr (by decide), qu_tr (by decide), e7 k hk, qu_ne _ (by omega), qu_ne _ (by omega), qu_ne _ (by omega)]
  · rw [if_neg cl, if_neg cl]
    exact hE
theorem fiK_lt {rk : Nat → Nat} {R i : Nat} : ∀ {n : Nat}, fiK rk R n = some i → i < n ∧ rk i = R := by
  intro n
  induction n with
  | zero => intro h; cases h
  | succ n ih =>
    intro h
    unfold fiK at h
    by_cases c : rk n = R
    · rw [if_pos c] at h
      cases h
      exact ⟨Nat.lt_succ_self _, c⟩
    · rw [if_neg c] at h
      have := ih h
      exact ⟨by omega, this.2⟩
theorem QE.find {N : nS} {Q Q' : nS} (hn : N 7 0 ≤ 16) (hE : QE (N 7 0) Q Q') (e : Nat) (t : Nat → Nat) {c : Nat} (hc : c < 1000000000) (fr dr : Nat) : QE (N 7 0) (findQ N e t c fr dr Q) (findP N e t c fr dr Q') ∧ fndI N t Q = fndI N t Q' := by
  have hf := fiK_qe hE (rkN (N 7 0) t)
  cases h : fiK (Q 40) (rkN (N 7 0) t) (Q 42 0) with
  | some j =>
    rw [(findQ_s h).1, (findP_s (hf.symm.trans h)).1, (findQ_s (N := N) (e := e) (c := c) (fr := fr) (dr := dr) h).2, (findP_s (N := N) (e := e) (c := c) (fr := fr) (dr := dr) (hf.symm.trans h)).2]
    exact ⟨hE.cost (fiK_lt h).1 c fr dr, rfl⟩
  | none =>
    rw [(findQ_n hc h).1, (findP_n hc (hf.symm.trans h)).1, (findQ_n (N := N) (e := e) (fr := fr) (dr := dr) hc h).2, (findP_n (N := N) (e := e) (fr := fr) (dr := dr) hc (hf.symm.trans h)).2, ← hE.1]
    obtain ⟨b1, b2, b3, b4, b5, b6, b7, b8⟩ := addP_n (N := N) (e := e) (t := t) (c := c) (fr := fr) (dr := dr) (P := Q')
    refine ⟨⟨?_, fun i hi => ?_⟩, rfl⟩
    · have e1 := newQ_42 N e t Q
      rw [b1]
      simp [qu, e1, hE.1]
    · have e1 := newQ_42 N e t Q
      have hi : i < Q 42 0 + 1 := by
        simp only [qu] at hi
        simpa [e1] using hi
      by_cases ci : i = Q 42 0
      · have ci' : i = Q' 42 0 := by rw [ci, hE.1]
        subst ci'
        refine ⟨?_, ?_, ?_, ?_, ?_, ?_, fun k hk => ?_⟩
        · rw [b4]; simp [qu, hE.1]
        · rw [b5]; simp [qu, newQ_36, hE.1]
        · rw [b6]; simp [qu, hE.1]
        · rw [b7]; simp [qu, hE.1]
        · rw [b8]; simp [qu, newQ_41, hE.1]
        · rw [b3]; simp [qu, newQ_40, hE.1]
        · rw [qu_tr (by decide), qu_tr (by decide), qu_tr (by decide), newQ_tr _ _ _ _ hn _ _ hk, if_pos ci, b2]
      · obtain ⟨e1, e2, e3, e4, e5, e6, e7⟩ := hE.2 i (by omega)
        have ci' : ¬ i = Q' 42 0 := by rw [← hE.1]; exact ci
        have hle : i < Q' 42 0 := by rw [← hE.1]; omega
        refine ⟨?_, ?_, ?_, ?_, ?_, ?_, fun k hk => ?_⟩
        · simp [qu, addP, newQ_35, ci, ci', e1]
          omega
        · simp [qu, addP, newQ_36, ci, ci', e2]
          omega
        · simp [qu, addP, newQ_37, ci, ci', e3]
          omega
        · simp [qu, addP, newQ_38, ci, ci', e4]
          omega
        · simp [qu, addP, newQ_41, ci, ci', e5]
          omega
        · simp [qu, addP, newQ_40, ci, ci', e6]
          omega
        · rw [qu_tr (by decide), qu_tr (by decide), qu_tr (by decide), newQ_tr _ _ _ _ hn _ _ hk, if_neg ci, e7 k hk, addP_r hle]
theorem c_findS {σ : Nat → Value} {d m c fr dr e : Nat} {N : nS} {t : Nat → Nat} {h : aH} {S : mS} {L : Nat → Int64} {Q : nS} {B : Nat → Nat} (hM : MI S N) (hG : GGeo N) (hA : GAim N) (hQ : GPart N) (hP : PermN (N 7 0) t) (hR : RowS (S 43) (N 7 0) t) (he : e < 5) (hT : SQ (N 7 0) S L Q B) (hH : HT Q B) (hc : c < 1000000000) (h41 : Q 42 0 < 4101) (hq : ∀ i, i < Q 42 0 → Q 35 i ≤ 1000000000) : CL σ (d + 4) 274 [.ref m, .int (nI c), .int (nI fr), .int (nI dr), .int (nI e)] (mh h m S L) 0 0 (aMs (some (.int (nI (fndI N t Q)))) h m fun S' L' => Fr stFr S S' ∧ ∃ B', SQ (N 7 0) S' L' (findP N e t c fr dr Q) B' ∧ HT (findP N e t c fr dr Q) B') := by
  have hn := hG.n16
  obtain ⟨Qj, h1, h2⟩ := hT.tot hn
  have h3 := h2.find hn e t hc fr dr
  have hH' : HT Qj B := hH.qe h2.1.symm fun i hi => ((h2.2 i (by rw [h2.1]; exact hi)).2.2.2.2.2.1).symm
  have hk := c_finds (σ := σ) (d := d) (m := m) (h := h) (fr := fr) (dr := dr) hM hG hA hQ hP hR he h1 hH' hc (by rw [h2.1]; exact h41) (fun i hi => by rw [(h2.2 i hi).1]; exact hq i (by rw [← h2.1]; exact hi))
  rw [h3.2] at hk
  refine CL_mono hk (Nat.le_refl _) (Nat.le_refl _) ?_
  rintro o h' ⟨S', L', rfl, rfl, hF, B', hT', hH2⟩
  exact ⟨S', L', rfl, rfl, hF, B', hT'.sq h3.1, hH2.qe h3.1.1 fun i hi => (h3.1.2 i hi).2.2.2.2.2.1⟩
/-- which of two states is taken first -/
def ltQ (Q : nS) (a b : Nat) : Bool := decide (Q 35 a + Q 36 a < Q 35 b + Q 36 b ∨ (Q 35 a + Q 36 a = Q 35 b + Q 36 b ∧ (Q 36 a < Q 36 b ∨ (Q 36 a = Q 36 b ∧ Q 40 a < Q 40 b))))
theorem c_goesAhead {σ : Nat → Value} {d m a b n : Nat} {h : aH} {S : mS} {L : Nat → Int64} {Q : nS} {B : Nat → Nat} (hT : SQ n S L Q B) (hH : HT Q B) (ha : a < Q 42 0) (hb : b < Q 42 0) (hv : ∀ i, i < Q 42 0 → Q 35 i ≤ 1000000000 ∧ Q 36 i ≤ 1000000000) : CL σ (d + 1) 279 [.ref m, .int (nI a), .int (nI b)] (mh h m S L) 0 0 (aPure (.int (bI (ltQ Q a b))) (mh h m S L)) := by
  have h41 := hH.1
  obtain ⟨a1, a2, a3, a4, a5, a6, a7⟩ := hT.2.1 a ha
  obtain ⟨b1, b2, b3, b4, b5, b6, b7⟩ := hT.2.1 b hb
  have va := hv a ha
  have vb := hv b hb
  have ra := hH.2.2.2.2.2 a ha
  have rb := hH.2.2.2.2.2 b hb
  have nM0 : nM < nI 0 := by decide
  refine CL_in (tb279 _) ml279 (by simp [lay]) ?_
  simp (disch := omega) only [lays, lay, List.replicate, List.append_nil, i_op, o_int, o_long, o_flt, o_null, o_iadd, o_isub, o_imul, o_iand, o_ior, o_ixor, o_idiv, o_irem, o_ineg, o_ishl, o_ishr, o_iushr, o_ladd, o_lsub, o_lmul, o_land, o_lor, o_lxor, o_ldiv, o_lrem, o_lshl, o_lushr, o_lcmp, o_i2l, o_l2i, o_i2c, o_i2b, o_i2d, o_i2f, o_pop, o_dup, o_dup_x1, o_dup2, i_iload, i_lload, i_dload, i_aload, i_istore, i_astore, i_lstore, i_dstore, i_iinc, i_goto, i_ifeq, i_ifne, i_iflt, i_ifge, i_ifgt, i_ifle, i_ceq, i_cne, i_clt, i_cge, i_cgt, i_cle, i_null, i_nnull, i_aeq, i_ane, i_getf, i_putf, i_push, i_alen, i_iald, i_lald, i_aald, i_iast, i_last, i_aast, i_cast, i_inst, i_ret, i_iret, i_lret, i_aret, i_callS, i_callI, i_callV, i_callU, i_ulong, i_oinit, i_mmax, i_mmin, sto1, sto2, Value.category, List.getElem?_cons_zero, List.getElem?_cons_succ, List.drop_succ_cons, List.drop_zero, List.take_succ_cons, List.take_zero, List.reverse_cons, List.reverse_nil, List.nil_append, List.cons_append, List.length_cons, List.length_nil, List.set_cons_zero, List.set_cons_succ, List.lookup_cons, r279_0, r279_1, r279_4, r279_5, r279_6, r279_7, r279_10, r279_11, r279_12, r279_13, r279_14, r279_15, r279_18, r279_19, r279_20, r279_21, r279_24, r279_25, r279_26, r279_27, r279_29, r279_30, r279_32, r279_35, r279_36, r279_38, r279_41, r279_42, r279_45, r279_46, r279_48, r279_51, r279_52, r279_53, r279_54, r279_57, r279_58, r279_59, r279_62, r279_63, r279_66, r279_67, r279_68, r279_69, r279_72, r279_73, r279_74, r279_77, r279_78, r279_81, r279_82, r279_83, r279_84, r279_87, r279_88, r279_89, r279_90, r279_93, r279_94, r279_97, r279_98, ↓reduceIte, Nat.lt_irrefl, eq_self, ne_eq, not_true_eq_false, q_in, q_nar, q_narZ0, q_narZ1, q_fitI, q_fitL, q_fitZ0, q_fitZ1, q_fitO, q_fitN, q_fitA, q_fitAN, q_clL, q_lt, q_eq, q_lt0, q_0lt, q_eq0, q_eqm, q_inc, q_add1, q_add, q_mul, q_sub, ofNat_nI, true_or, or_true, true_and, and_true, if_true, if_false, Nat.le_refl, Nat.zero_le, not_true_eq_false, not_false_eq_true, Nat.reduceMod, Nat.reduceLT, Nat.reduceLeDiff, Nat.reduceAdd, Nat.reduceEqDiff, Nat.reduceBEq, Nat.reduceSub, Nat.reduceMul, mh_m, mf0, mf1, mf2, mf3, mf4, mf5, mf6, mf7, mf8, mf9, mf10, mf11, mf12, mf13, mf14, mf15, mf16, mf17, mf18, mf19, mf20, mf21, mf22, mf23, mf24, mf25, mf26, mf27, mf28, mf29, mf30, mf31, mf32, mf33, mf34, mf35, mf36, mf37, mf38, mf39, mf40, mf41, mf42, mf43, mf44, mf45, mf46, mf47, mf48, mf49, mf50, mf51, mf52, mf53, mf54, mf55, mf56, mf57, mf58, mf59, mf60, mf61, mf62, mf63, mf64, mf65, mf66, ↓z_m, z0, z1, z2, z3, z4, z5, z6, z7, z8, z9, z10, z12, z13, z14, z15, z16, z20, z24, z31, z32, z48, z50, z56, z63, z100, z108, z114, z117, z127, z200, z255, z500, z720, z1000, z1001, z4101, z6561, z8202, z12345, z16383, z16384, z65535, z1000000, z1000000000, z1103515245, n_ltT, n_ltF, n_eqT, n_eqF, m_eq, m_eq2, m_lt, m_lt2, bI_t1, bI_f1, bI_e1, bI_e0, nI_NO, q_fz0, q_fz1, q_nz0, q_nz1, q_narZ, q_fitZ, oN_n, oN_s, ↓pk_rem', pk_div', Bool.true_eq_false, Bool.false_eq_true, Nat.not_lt_zero, Nat.add_zero, Nat.zero_add, ma35, ma36, a1, a2, b1, b2]
  by_cases c1 : Q 35 a + Q 36 a = Q 35 b + Q 36 b
  · by_cases c2 : Q 36 a < Q 36 b
    · have e : ltQ Q a b = true := by unfold ltQ; rw [decide_eq_true_iff]; omega
      rw [e]
      simp (disch := omega) only [i_op, o_int, o_long, o_flt, o_null, o_iadd, o_isub, o_imul, o_iand, o_ior, o_ixor, o_idiv, o_irem, o_ineg, o_ishl, o_ishr, o_iushr, o_ladd, o_lsub, o_lmul, o_land, o_lor, o_lxor, o_ldiv, o_lrem, o_lshl, o_lushr, o_lcmp, o_i2l, o_l2i, o_i2c, o_i2b, o_i2d, o_i2f, o_pop, o_dup, o_dup_x1, o_dup2, i_iload, i_lload, i_dload, i_aload, i_istore, i_astore, i_lstore, i_dstore, i_iinc, i_goto, i_ifeq, i_ifne, i_iflt, i_ifge, i_ifgt, i_ifle, i_ceq, i_cne, i_clt, i_cge, i_cgt, i_cle, i_null, i_nnull, i_aeq, i_ane, i_getf, i_putf, i_push, i_alen, i_iald, i_lald, i_aald, i_iast, i_last, i_aast, i_cast, i_inst, i_ret, i_iret, i_lret, i_aret, i_callS, i_callI, i_callV, i_callU, i_ulong, i_oinit, i_mmax, i_mmin, sto1, sto2, Value.category, List.getElem?_cons_zero, List.getElem?_cons_succ, List.drop_succ_cons, List.drop_zero, List.take_succ_cons, List.take_zero, List.reverse_cons, List.reverse_nil, List.nil_append, List.cons_append, List.length_cons, List.length_nil, List.set_cons_zero, List.set_cons_succ, List.lookup_cons, r279_0, r279_1, r279_4, r279_5, r279_6, r279_7, r279_10, r279_11, r279_12, r279_13, r279_14, r279_15, r279_18, r279_19, r279_20, r279_21, r279_24, r279_25, r279_26, r279_27, r279_29, r279_30, r279_32, r279_35, r279_36, r279_38, r279_41, r279_42, r279_45, r279_46, r279_47, r279_48, r279_51, r279_52, r279_53, r279_54, r279_57, r279_58, r279_59, r279_62, r279_63, r279_66, r279_67, r279_68, r279_69, r279_72, r279_73, r279_74, r279_77, r279_78, r279_81, r279_82, r279_83, r279_84, r279_87, r279_88, r279_89, r279_90, r279_93, r279_94, r279_97, r279_98, ↓reduceIte, Nat.lt_irrefl, eq_self, ne_eq, not_true_eq_false, q_in, q_nar, q_narZ0, q_narZ1, q_fitI, q_fitL, q_fitZ0, q_fitZ1, q_fitO, q_fitN, q_fitA, q_fitAN, q_clL, q_lt, q_eq, q_lt0, q_0lt, q_eq0, q_eqm, q_inc, q_add1, q_add, q_mul, q_sub, ofNat_nI, true_or, or_true, true_and, and_true, if_true, if_false, Nat.le_refl, Nat.zero_le, not_true_eq_false, not_false_eq_true, Nat.reduceMod, Nat.reduceLT, Nat.reduceLeDiff, Nat.reduceAdd, Nat.reduceEqDiff, Nat.reduceBEq, Nat.reduceSub, Nat.reduceMul, mh_m, mf0, mf1, mf2, mf3, mf4, mf5, mf6, mf7, mf8, mf9, mf10, mf11, mf12, mf13, mf14, mf15, mf16, mf17, mf18, mf19, mf20, mf21, mf22, mf23, mf24, mf25, mf26, mf27, mf28, mf29, mf30, mf31, mf32, mf33, mf34, mf35, mf36, mf37, mf38, mf39, mf40, mf41, mf42, mf43, mf44, mf45, mf46, mf47, mf48, mf49, mf50, mf51, mf52, mf53, mf54, mf55, mf56, mf57, mf58, mf59, mf60, mf61, mf62, mf63, mf64, mf65, mf66, ↓z_m, z0, z1, z2, z3, z4, z5, z6, z7, z8, z9, z10, z12, z13, z14, z15, z16, z20, z24, z31, z32, z48, z50, z56, z63, z100, z108, z114, z117, z127, z200, z255, z500, z720, z1000, z1001, z4101, z6561, z8202, z12345, z16383, z16384, z65535, z1000000, z1000000000, z1103515245, n_ltT, n_ltF, n_eqT, n_eqF, m_eq, m_eq2, m_lt, m_lt2, bI_t1, bI_f1, bI_e1, bI_e0, nI_NO, q_fz0, q_fz1, q_nz0, q_nz1, q_narZ, q_fitZ, oN_n, oN_s, ↓pk_rem', pk_div', Bool.true_eq_false, Bool.false_eq_true, Nat.not_lt_zero, Nat.add_zero, Nat.zero_add, ma35, ma36, a1, a2, b1, b2, aPure, aQ]
    · by_cases c3 : Q 36 a = Q 36 b
      · by_cases c4 : Q 40 a < Q 40 b
        · have e : ltQ Q a b = true := by unfold ltQ; rw [decide_eq_true_iff]; omega
          rw [e]
          simp (disch := omega) only [i_op, o_int, o_long, o_flt, o_null, o_iadd, o_isub, o_imul, o_iand, o_ior, o_ixor, o_idiv, o_irem, o_ineg, o_ishl, o_ishr, o_iushr, o_ladd, o_lsub, o_lmul, o_land, o_lor, o_lxor, o_ldiv, o_lrem, o_lshl, o_lushr, o_lcmp, o_i2l, o_l2i, o_i2c, o_i2b, o_i2d, o_i2f, o_pop, o_dup, o_dup_x1, o_dup2, i_iload, i_lload, i_dload, i_aload, i_istore, i_astore, i_lstore, i_dstore, i_iinc, i_goto, i_ifeq, i_ifne, i_iflt, i_ifge, i_ifgt, i_ifle, i_ceq, i_cne, i_clt, i_cge, i_cgt, i_cle, i_null, i_nnull, i_aeq, i_ane, i_getf, i_putf, i_push, i_alen, i_iald, i_lald, i_aald, i_iast, i_last, i_aast, i_cast, i_inst, i_ret, i_iret, i_lret, i_aret, i_callS, i_callI, i_callV, i_callU, i_ulong, i_oinit, i_mmax, i_mmin, sto1, sto2, Value.category, List.getElem?_cons_zero, List.getElem?_cons_succ, List.drop_succ_cons, List.drop_zero, List.take_succ_cons, List.take_zero, List.reverse_cons, List.reverse_nil, List.nil_append, List.cons_append, List.length_cons, List.length_nil, List.set_cons_zero, List.set_cons_succ, List.lookup_cons, r279_0, r279_1, r279_4, r279_5, r279_6, r279_7, r279_10, r279_11, r279_12, r279_13, r279_14, r279_15, r279_18, r279_19, r279_20, r279_21, r279_24, r279_25, r279_26, r279_27, r279_29, r279_30, r279_32, r279_35, r279_36, r279_38, r279_41, r279_42, r279_45, r279_46, r279_47, r279_48, r279_51, r279_52, r279_53, r279_54, r279_57, r279_58, r279_59, r279_62, r279_63, r279_66, r279_67, r279_68, r279_69, r279_72, r279_73, r279_74, r279_77, r279_78, r279_81, r279_82, r279_83, r279_84, r279_87, r279_88, r279_89, r279_90, r279_93, r279_94, r279_97, r279_98, ↓reduceIte, Nat.lt_irrefl, eq_self, ne_eq, not_true_eq_false, q_in, q_nar, q_narZ0, q_narZ1, q_fitI, q_fitL, q_fitZ0, q_fitZ1, q_fitO, q_fitN, q_fitA, q_fitAN, q_clL, q_lt, q_eq, q_lt0, q_0lt, q_eq0, q_eqm, q_inc, q_add1, q_add, q_mul, q_sub, ofNat_nI, true_or, or_true, true_and, and_true, if_true, if_false, Nat.le_refl, Nat.zero_le, not_true_eq_false, not_false_eq_true, Nat.reduceMod, Nat.reduceLT, Nat.reduceLeDiff, Nat.reduceAdd, Nat.reduceEqDiff, Nat.reduceBEq, Nat.reduceSub, Nat.reduceMul, mh_m, mf0, mf1, mf2, mf3, mf4, mf5, mf6, mf7, mf8, mf9, mf10, mf11, mf12, mf13, mf14, mf15, mf16, mf17, mf18, mf19, mf20, mf21, mf22, mf23, mf24, mf25, mf26, mf27, mf28, mf29, mf30, mf31, mf32, mf33, mf34, mf35, mf36, mf37, mf38, mf39, mf40, mf41, mf42, mf43, mf44, mf45, mf46, mf47, mf48, mf49, mf50, mf51, mf52, mf53, mf54, mf55, mf56, mf57, mf58, mf59, mf60, mf61, mf62, mf63, mf64, mf65, mf66, ↓z_m, z0, z1, z2, z3, z4, z5, z6, z7, z8, z9, z10, z12, z13, z14, z15, z16, z20, z24, z31, z32, z48, z50, z56, z63, z100, z108, z114, z117, z127, z200, z255, z500, z720, z1000, z1001, z4101, z6561, z8202, z12345, z16383, z16384, z65535, z1000000, z1000000000, z1103515245, n_ltT, n_ltF, n_eqT, n_eqF, m_eq, m_eq2, m_lt, m_lt2, bI_t1, bI_f1, bI_e1, bI_e0, nI_NO, q_fz0, q_fz1, q_nz0, q_nz1, q_narZ, q_fitZ, oN_n, oN_s, ↓pk_rem', pk_div', Bool.true_eq_false, Bool.false_eq_true, Nat.not_lt_zero, Nat.add_zero, Nat.zero_add, ma35, ma36, ma40, a1, a2, a6, b1, b2, b6, q_cmp, nM0, aPure, aQ]
        · have e : ltQ Q a b = false := by unfold ltQ; rw [decide_eq_false_iff_not]; omega
          rw [e]
          by_cases c5 : Q 40 b < Q 40 a
          · simp (disch := omega) only [i_op, o_int, o_long, o_flt, o_null, o_iadd, o_isub, o_imul, o_iand, o_ior, o_ixor, o_idiv, o_irem, o_ineg, o_ishl, o_ishr, o_iushr, o_ladd, o_lsub, o_lmul, o_land, o_lor, o_lxor, o_ldiv, o_lrem, o_lshl, o_lushr, o_lcmp, o_i2l, o_l2i, o_i2c, o_i2b, o_i2d, o_i2f, o_pop, o_dup, o_dup_x1, o_dup2, i_iload, i_lload, i_dload, i_aload, i_istore, i_astore, i_lstore, i_dstore, i_iinc, i_goto, i_ifeq, i_ifne, i_iflt, i_ifge, i_ifgt, i_ifle, i_ceq, i_cne, i_clt, i_cge, i_cgt, i_cle, i_null, i_nnull, i_aeq, i_ane, i_getf, i_putf, i_push, i_alen, i_iald, i_lald, i_aald, i_iast, i_last, i_aast, i_cast, i_inst, i_ret, i_iret, i_lret, i_aret, i_callS, i_callI, i_callV, i_callU, i_ulong, i_oinit, i_mmax, i_mmin, sto1, sto2, Value.category, List.getElem?_cons_zero, List.getElem?_cons_succ, List.drop_succ_cons, List.drop_zero, List.take_succ_cons, List.take_zero, List.reverse_cons, List.reverse_nil, List.nil_append, List.cons_append, List.length_cons, List.length_nil, List.set_cons_zero, List.set_cons_succ, List.lookup_cons, r279_0, r279_1, r279_4, r279_5, r279_6, r279_7, r279_10, r279_11, r279_12, r279_13, r279_14, r279_15, r279_18, r279_19, r279_20, r279_21, r279_24, r279_25, r279_26, r279_27, r279_29, r279_30, r279_32, r279_35, r279_36, r279_38, r279_41, r279_42, r279_45, r279_46, r279_47, r279_48, r279_51, r279_52, r279_53, r279_54, r279_57, r279_58, r279_59, r279_62, r279_63, r279_66, r279_67, r279_68, r279_69, r279_72, r279_73, r279_74, r279_77, r279_78, r279_81, r279_82, r279_83, r279_84, r279_87, r279_88, r279_89, r279_90, r279_93, r279_94, r279_97, r279_98, ↓reduceIte, Nat.lt_irrefl, eq_self, ne_eq, not_true_eq_false, q_in, q_nar, q_narZ0, q_narZ1, q_fitI, q_fitL, q_fitZ0, q_fitZ1, q_fitO, q_fitN, q_fitA, q_fitAN, q_clL, q_lt, q_eq, q_lt0, q_0lt, q_eq0, q_eqm, q_inc, q_add1, q_add, q_mul, q_sub, ofNat_nI, true_or, or_true, true_and, and_true, if_true, if_false, Nat.le_refl, Nat.zero_le, not_true_eq_false, not_false_eq_true, Nat.reduceMod, Nat.reduceLT, Nat.reduceLeDiff, Nat.reduceAdd, Nat.reduceEqDiff, Nat.reduceBEq, Nat.reduceSub, Nat.reduceMul, mh_m, mf0, mf1, mf2, mf3, mf4, mf5, mf6, mf7, mf8, mf9, mf10, mf11, mf12, mf13, mf14, mf15, mf16, mf17, mf18, mf19, mf20, mf21, mf22, mf23, mf24, mf25, mf26, mf27, mf28, mf29, mf30, mf31, mf32, mf33, mf34, mf35, mf36, mf37, mf38, mf39, mf40, mf41, mf42, mf43, mf44, mf45, mf46, mf47, mf48, mf49, mf50, mf51, mf52, mf53, mf54, mf55, mf56, mf57, mf58, mf59, mf60, mf61, mf62, mf63, mf64, mf65, mf66, ↓z_m, z0, z1, z2, z3, z4, z5, z6, z7, z8, z9, z10, z12, z13, z14, z15, z16, z20, z24, z31, z32, z48, z50, z56, z63, z100, z108, z114, z117, z127, z200, z255, z500, z720, z1000, z1001, z4101, z6561, z8202, z12345, z16383, z16384, z65535, z1000000, z1000000000, z1103515245, n_ltT, n_ltF, n_eqT, n_eqF, m_eq, m_eq2, m_lt, m_lt2, bI_t1, bI_f1, bI_e1, bI_e0, nI_NO, q_fz0, q_fz1, q_nz0, q_nz1, q_narZ, q_fitZ, oN_n, oN_s, ↓pk_rem', pk_div', Bool.true_eq_false, Bool.false_eq_true, Nat.not_lt_zero, Nat.add_zero, Nat.zero_add, ma35, ma36, ma40, a1, a2, a6, b1, b2, b6, q_cmp, nM0, aPure, aQ]
          · simp (disch := omega) only [i_op, o_int, o_long, o_flt, o_null, o_iadd, o_isub, o_imul, o_iand, o_ior, o_ixor, o_idiv, o_irem, o_ineg, o_ishl, o_ishr, o_iushr, o_ladd, o_lsub, o_lmul, o_land, o_lor, o_lxor, o_ldiv, o_lrem, o_lshl, o_lushr, o_lcmp, o_i2l, o_l2i, o_i2c, o_i2b, o_i2d, o_i2f, o_pop, o_dup, o_dup_x1, o_dup2, i_iload, i_lload, i_dload, i_aload, i_istore, i_astore, i_lstore, i_dstore, i_iinc, i_goto, i_ifeq, i_ifne, i_iflt, i_ifge, i_ifgt, i_ifle, i_ceq, i_cne, i_clt, i_cge, i_cgt, i_cle, i_null, i_nnull, i_aeq, i_ane, i_getf, i_putf, i_push, i_alen, i_iald, i_lald, i_aald, i_iast, i_last, i_aast, i_cast, i_inst, i_ret, i_iret, i_lret, i_aret, i_callS, i_callI, i_callV, i_callU, i_ulong, i_oinit, i_mmax, i_mmin, sto1, sto2, Value.category, List.getElem?_cons_zero, List.getElem?_cons_succ, List.drop_succ_cons, List.drop_zero, List.take_succ_cons, List.take_zero, List.reverse_cons, List.reverse_nil, List.nil_append, List.cons_append, List.length_cons, List.length_nil, List.set_cons_zero, List.set_cons_succ, List.lookup_cons, r279_0, r279_1, r279_4, r279_5, r279_6, r279_7, r279_10, r279_11, r279_12, r279_13, r279_14, r279_15, r279_18, r279_19, r279_20, r279_21, r279_24, r279_25, r279_26, r279_27, r279_29, r279_30, r279_32, r279_35, r279_36, r279_38, r279_41, r279_42, r279_45, r279_46, r279_47, r279_48, r279_51, r279_52, r279_53, r279_54, r279_57, r279_58, r279_59, r279_62, r279_63, r279_66, r279_67, r279_68, r279_69, r279_72, r279_73, r279_74, r279_77, r279_78, r279_81, r279_82, r279_83, r279_84, r279_87, r279_88, r279_89, r279_90, r279_93, r279_94, r279_97, r279_98, ↓reduceIte, Nat.lt_irrefl, eq_self, ne_eq, not_true_eq_false, q_in, q_nar, q_narZ0, q_narZ1, q_fitI, q_fitL, q_fitZ0, q_fitZ1, q_fitO, q_fitN, q_fitA, q_fitAN, q_clL, q_lt, q_eq, q_lt0, q_0lt, q_eq0, q_eqm, q_inc, q_add1, q_add, q_mul, q_sub, ofNat_nI, true_or, or_true, true_and, and_true, if_true, if_false, Nat.le_refl, Nat.zero_le, not_true_eq_false, not_false_eq_true, Nat.reduceMod, Nat.reduceLT, Nat.reduceLeDiff, Nat.reduceAdd, Nat.reduceEqDiff, Nat.reduceBEq, Nat.reduceSub, Nat.reduceMul, mh_m, mf0, mf1, mf2, mf3, mf4, mf5, mf6, mf7, mf8, mf9, mf10, mf11, mf12, mf13, mf14, mf15, mf16, mf17, mf18, mf19, mf20, mf21, mf22, mf23, mf24, mf25, mf26, mf27, mf28, mf29, mf30, mf31, mf32, mf33, mf34, mf35, mf36, mf37, mf38, mf39, mf40, mf41, mf42, mf43, mf44, mf45, mf46, mf47, mf48, mf49, mf50, mf51, mf52, mf53, mf54, mf55, mf56, mf57, mf58, mf59, mf60, mf61, mf62, mf63, mf64, mf65, mf66, ↓z_m, z0, z1, z2, z3, z4, z5, z6, z7, z8, z9, z10, z12, z13, z14, z15, z16, z20, z24, z31, z32, z48, z50, z56, z63, z100, z108, z114, z117, z127, z200, z255, z500, z720, z1000, z1001, z4101, z6561, z8202, z12345, z16383, z16384, z65535, z1000000, z1000000000, z1103515245, n_ltT, n_ltF, n_eqT, n_eqF, m_eq, m_eq2, m_lt, m_lt2, bI_t1, bI_f1, bI_e1, bI_e0, nI_NO, q_fz0, q_fz1, q_nz0, q_nz1, q_narZ, q_fitZ, oN_n, oN_s, ↓pk_rem', pk_div', Bool.true_eq_false, Bool.false_eq_true, Nat.not_lt_zero, Nat.add_zero, Nat.zero_add, ma35, ma36, ma40, a1, a2, a6, b1, b2, b6, q_cmp, nM0, aPure, aQ]
      · have e : ltQ Q a b = false := by unfold ltQ; rw [decide_eq_false_iff_not]; omega
        rw [e]
        simp (disch := omega) only [i_op, o_int, o_long, o_flt, o_null, o_iadd, o_isub, o_imul, o_iand, o_ior, o_ixor, o_idiv, o_irem, o_ineg, o_ishl, o_ishr, o_iushr, o_ladd, o_lsub, o_lmul, o_land, o_lor, o_lxor, o_ldiv, o_lrem, o_lshl, o_lushr, o_lcmp, o_i2l, o_l2i, o_i2c, o_i2b, o_i2d, o_i2f, o_pop, o_dup, o_dup_x1, o_dup2, i_iload, i_lload, i_dload, i_aload, i_istore, i_astore, i_lstore, i_dstore, i_iinc, i_goto, i_ifeq, i_ifne, i_iflt, i_ifge, i_ifgt, i_ifle, i_ceq, i_cne, i_clt, i_cge, i_cgt, i_cle, i_null, i_nnull, i_aeq, i_ane, i_getf, i_putf, i_push, i_alen, i_iald, i_lald, i_aald, i_iast, i_last, i_aast, i_cast, i_inst, i_ret, i_iret, i_lret, i_aret, i_callS, i_callI, i_callV, i_callU, i_ulong, i_oinit, i_mmax, i_mmin, sto1, sto2, Value.category, List.getElem?_cons_zero, List.getElem?_cons_succ, List.drop_succ_cons, List.drop_zero, List.take_succ_cons, List.take_zero, List.reverse_cons, List.reverse_nil, List.nil_append, List.cons_append, List.length_cons, List.length_nil, List.set_cons_zero, List.set_cons_succ, List.lookup_cons, r279_0, r279_1, r279_4, r279_5, r279_6, r279_7, r279_10, r279_11, r279_12, r279_13, r279_14, r279_15, r279_18, r279_19, r279_20, r279_21, r279_24, r279_25, r279_26, r279_27, r279_29, r279_30, r279_32, r279_35, r279_36, r279_38, r279_41, r279_42, r279_45, r279_46, r279_47, r279_48, r279_51, r279_52, r279_53, r279_54, r279_57, r279_58, r279_59, r279_62, r279_63, r279_66, r279_67, r279_68, r279_69, r279_72, r279_73, r279_74, r279_77, r279_78, r279_81, r279_82, r279_83, r279_84, r279_87, r279_88, r279_89, r279_90, r279_93, r279_94, r279_97, r279_98, ↓reduceIte, Nat.lt_irrefl, eq_self, ne_eq, not_true_eq_false, q_in, q_nar, q_narZ0, q_narZ1, q_fitI, q_fitL, q_fitZ0, q_fitZ1, q_fitO, q_fitN, q_fitA, q_fitAN, q_clL, q_lt, q_eq, q_lt0, q_0lt, q_eq0, q_eqm, q_inc, q_add1, q_add, q_mul, q_sub, ofNat_nI, true_or, or_true, true_and, and_true, if_true, if_false, Nat.le_refl, Nat.zero_le, not_true_eq_false, not_false_eq_true, Nat.reduceMod, Nat.reduceLT, Nat.reduceLeDiff, Nat.reduceAdd, Nat.reduceEqDiff, Nat.reduceBEq, Nat.reduceSub, Nat.reduceMul, mh_m, mf0, mf1, mf2, mf3, mf4, mf5, mf6, mf7, mf8, mf9, mf10, mf11, mf12, mf13, mf14, mf15, mf16, mf17, mf18, mf19, mf20, mf21, mf22, mf23, mf24, mf25, mf26, mf27, mf28, mf29, mf30, mf31, mf32, mf33, mf34, mf35, mf36, mf37, mf38, mf39, mf40, mf41, mf42, mf43, mf44, mf45, mf46, mf47, mf48, mf49, mf50, mf51, mf52, mf53, mf54, mf55, mf56, mf57, mf58, mf59, mf60, mf61, mf62, mf63, mf64, mf65, mf66, ↓z_m, z0, z1, z2, z3, z4, z5, z6, z7, z8, z9, z10, z12, z13, z14, z15, z16, z20, z24, z31, z32, z48, z50, z56, z63, z100, z108, z114, z117, z127, z200, z255, z500, z720, z1000, z1001, z4101, z6561, z8202, z12345, z16383, z16384, z65535, z1000000, z1000000000, z1103515245, n_ltT, n_ltF, n_eqT, n_eqF, m_eq, m_eq2, m_lt, m_lt2, bI_t1, bI_f1, bI_e1, bI_e0, nI_NO, q_fz0, q_fz1, q_nz0, q_nz1, q_narZ, q_fitZ, oN_n, oN_s, ↓pk_rem', pk_div', Bool.true_eq_false, Bool.false_eq_true, Nat.not_lt_zero, Nat.add_zero, Nat.zero_add, ma35, ma36, a1, a2, b1, b2, aPure, aQ]
  · by_cases c2 : Q 35 a + Q 36 a < Q 35 b + Q 36 b
    · have e : ltQ Q a b = true := by unfold ltQ; rw [decide_eq_true_iff]; omega
      rw [e]
      simp (disch := omega) only [i_op, o_int, o_long, o_flt, o_null, o_iadd, o_isub, o_imul, o_iand, o_ior, o_ixor, o_idiv, o_irem, o_ineg, o_ishl, o_ishr, o_iushr, o_ladd, o_lsub, o_lmul, o_land, o_lor, o_lxor, o_ldiv, o_lrem, o_lshl, o_lushr, o_lcmp, o_i2l, o_l2i, o_i2c, o_i2b, o_i2d, o_i2f, o_pop, o_dup, o_dup_x1, o_dup2, i_iload, i_lload, i_dload, i_aload, i_istore, i_astore, i_lstore, i_dstore, i_iinc, i_goto, i_ifeq, i_ifne, i_iflt, i_ifge, i_ifgt, i_ifle, i_ceq, i_cne, i_clt, i_cge, i_cgt, i_cle, i_null, i_nnull, i_aeq, i_ane, i_getf, i_putf, i_push, i_alen, i_iald, i_lald, i_aald, i_iast, i_last, i_aast, i_cast, i_inst, i_ret, i_iret, i_lret, i_aret, i_callS, i_callI, i_callV, i_callU, i_ulong, i_oinit, i_mmax, i_mmin, sto1, sto2, Value.category, List.getElem?_cons_zero, List.getElem?_cons_succ, List.drop_succ_cons, List.drop_zero, List.take_succ_cons, List.take_zero, List.reverse_cons, List.reverse_nil, List.nil_append, List.cons_append, List.length_cons, List.length_nil, List.set_cons_zero, List.set_cons_succ, List.lookup_cons, r279_0, r279_1, r279_4, r279_5, r279_6, r279_7, r279_10, r279_11, r279_12, r279_13, r279_14, r279_15, r279_18, r279_19, r279_20, r279_21, r279_24, r279_25, r279_26, r279_27, r279_29, r279_30, r279_32, r279_35, r279_36, r279_38, r279_41, r279_42, r279_45, r279_46, r279_47, r279_48, r279_51, r279_52, r279_53, r279_54, r279_57, r279_58, r279_59, r279_62, r279_63, r279_66, r279_67, r279_68, r279_69, r279_72, r279_73, r279_74, r279_77, r279_78, r279_81, r279_82, r279_83, r279_84, r279_87, r279_88, r279_89, r279_90, r279_93, r279_94, r279_97, r279_98, ↓reduceIte, Nat.lt_irrefl, eq_self, ne_eq, not_true_eq_false, q_in, q_nar, q_narZ0, q_narZ1, q_fitI, q_fitL, q_fitZ0, q_fitZ1, q_fitO, q_fitN, q_fitA, q_fitAN, q_clL, q_lt, q_eq, q_lt0, q_0lt, q_eq0, q_eqm, q_inc, q_add1, q_add, q_mul, q_sub, ofNat_nI, true_or, or_true, true_and, and_true, if_true, if_false, Nat.le_refl, Nat.zero_le, not_true_eq_false, not_false_eq_true, Nat.reduceMod, Nat.reduceLT, Nat.reduceLeDiff, Nat.reduceAdd, Nat.reduceEqDiff, Nat.reduceBEq, Nat.reduceSub, Nat.reduceMul, mh_m, mf0, mf1, mf2, mf3, mf4, mf5, mf6, mf7, mf8, mf9, mf10, mf11, mf12, mf13, mf14, mf15, mf16, mf17, mf18, mf19, mf20, mf21, mf22, mf23, mf24, mf25, mf26, mf27, mf28, mf29, mf30, mf31, mf32, mf33, mf34, mf35, mf36, mf37, mf38, mf39, mf40, mf41, mf42, mf43, mf44, mf45, mf46, mf47, mf48, mf49, mf50, mf51, mf52, mf53, mf54, mf55, mf56, mf57, mf58, mf59, mf60, mf61, mf62, mf63, mf64, mf65, mf66, ↓z_m, z0, z1, z2, z3, z4, z5, z6, z7, z8, z9, z10, z12, z13, z14, z15, z16, z20, z24, z31, z32, z48, z50, z56, z63, z100, z108, z114, z117, z127, z200, z255, z500, z720, z1000, z1001, z4101, z6561, z8202, z12345, z16383, z16384, z65535, z1000000, z1000000000, z1103515245, n_ltT, n_ltF, n_eqT, n_eqF, m_eq, m_eq2, m_lt, m_lt2, bI_t1, bI_f1, bI_e1, bI_e0, nI_NO, q_fz0, q_fz1, q_nz0, q_nz1, q_narZ, q_fitZ, oN_n, oN_s, ↓pk_rem', pk_div', Bool.true_eq_false, Bool.false_eq_true, Nat.not_lt_zero, Nat.add_zero, Nat.zero_add, ma35, ma36, a1, a2, b1, b2, aPure, aQ]
    · have e : ltQ Q a b = false := by unfold ltQ; rw [decide_eq_false_iff_not]; omega
      rw [e]
      simp (disch := omega) only [i_op, o_int, o_long, o_flt, o_null, o_iadd, o_isub, o_imul, o_iand, o_ior, o_ixor, o_idiv, o_irem, o_ineg, o_ishl, o_ishr, o_iushr, o_ladd, o_lsub, o_lmul, o_land, o_lor, o_lxor, o_ldiv, o_lrem, o_lshl, o_lushr, o_lcmp, o_i2l, o_l2i, o_i2c, o_i2b, o_i2d, o_i2f, o_pop, o_dup, o_dup_x1, o_dup2, i_iload, i_lload, i_dload, i_aload, i_istore, i_astore, i_lstore, i_dstore, i_iinc, i_goto, i_ifeq, i_ifne, i_iflt, i_ifge, i_ifgt, i_ifle, i_ceq, i_cne, i_clt, i_cge, i_cgt, i_cle, i_null, i_nnull, i_aeq, i_ane, i_getf, i_putf, i_push, i_alen, i_iald, i_lald, i_aald, i_iast, i_last, i_aast, i_cast, i_inst, i_ret, i_iret, i_lret, i_aret, i_callS, i_callI, i_callV, i_callU, i_ulong, i_oinit, i_mmax, i_mmin, sto1, sto2, Value.category, List.getElem?_cons_zero, List.getElem?_cons_succ, List.drop_succ_cons, List.drop_zero, List.take_succ_cons, List.take_zero, List.reverse_cons, List.reverse_nil, List.nil_append, List.cons_append, List.length_cons, List.length_nil, List.set_cons_zero, List.set_cons_succ, List.lookup_cons, r279_0, r279_1, r279_4, r279_5, r279_6, r279_7, r279_10, r279_11, r279_12, r279_13, r279_14, r279_15, r279_18, r279_19, r279_20, r279_21, r279_24, r279_25, r279_26, r279_27, r279_29, r279_30, r279_32, r279_35, r279_36, r279_38, r279_41, r279_42, r279_45, r279_46, r279_47, r279_48, r279_51, r279_52, r279_53, r279_54, r279_57, r279_58, r279_59, r279_62, r279_63, r279_66, r279_67, r279_68, r279_69, r279_72, r279_73, r279_74, r279_77, r279_78, r279_81, r279_82, r279_83, r279_84, r279_87, r279_88, r279_89, r279_90, r279_93, r279_94, r279_97, r279_98, ↓reduceIte, Nat.lt_irrefl, eq_self, ne_eq, not_true_eq_false, q_in, q_nar, q_narZ0, q_narZ1, q_fitI, q_fitL, q_fitZ0, q_fitZ1, q_fitO, q_fitN, q_fitA, q_fitAN, q_clL, q_lt, q_eq, q_lt0, q_0lt, q_eq0, q_eqm, q_inc, q_add1, q_add, q_mul, q_sub, ofNat_nI, true_or, or_true, true_and, and_true, if_true, if_false, Nat.le_refl, Nat.zero_le, not_true_eq_false, not_false_eq_true, Nat.reduceMod, Nat.reduceLT, Nat.reduceLeDiff, Nat.reduceAdd, Nat.reduceEqDiff, Nat.reduceBEq, Nat.reduceSub, Nat.reduceMul, mh_m, mf0, mf1, mf2, mf3, mf4, mf5, mf6, mf7, mf8, mf9, mf10, mf11, mf12, mf13, mf14, mf15, mf16, mf17, mf18, mf19, mf20, mf21, mf22, mf23, mf24, mf25, mf26, mf27, mf28, mf29, mf30, mf31, mf32, mf33, mf34, mf35, mf36, mf37, mf38, mf39, mf40, mf41, mf42, mf43, mf44, mf45, mf46, mf47, mf48, mf49, mf50, mf51, mf52, mf53, mf54, mf55, mf56, mf57, mf58, mf59, mf60, mf61, mf62, mf63, mf64, mf65, mf66, ↓z_m, z0, z1, z2, z3, z4, z5, z6, z7, z8, z9, z10, z12, z13, z14, z15, z16, z20, z24, z31, z32, z48, z50, z56, z63, z100, z108, z114, z117, z127, z200, z255, z500, z720, z1000, z1001, z4101, z6561, z8202, z12345, z16383, z16384, z65535, z1000000, z1000000000, z1103515245, n_ltT, n_ltF, n_eqT, n_eqF, m_eq, m_eq2, m_lt, m_lt2, bI_t1, bI_f1, bI_e1, bI_e0, nI_NO, q_fz0, q_fz1, q_nz0, q_nz1, q_narZ, q_fitZ, oN_n, oN_s, ↓pk_rem', pk_div', Bool.true_eq_false, Bool.false_eq_true, Nat.not_lt_zero, Nat.add_zero, Nat.zero_add, ma35, ma36, a1, a2, b1, b2, aPure, aQ]
