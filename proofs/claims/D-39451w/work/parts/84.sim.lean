/-! THE SIMULATION: a run of the abstract machine is a contract of the machine's (printed by gen/gen_sim.py) -/
set_option maxRecDepth 100000
def aSL : List (MethodName × ByteArray × Nat × Option FieldType × List (Nat × Nat × Nat × Nat)) → List aT → Prop
  | m :: ms, t :: ts => SndL m.1.cls m.1.name m.2.1 m.2.2.1 m.2.2.2.1 m.2.2.2.2 t ∧ aSL ms ts
  | _, _ => True
theorem aSL_get : ∀ {ms : List (MethodName × ByteArray × Nat × Option FieldType × List (Nat × Nat × Nat × Nat))} {ts : List aT}, aSL ms ts → ∀ (y : Nat) (m : MethodName × ByteArray × Nat × Option FieldType × List (Nat × Nat × Nat × Nat)) (t : aT), ms[y]? = some m → ts[y]? = some t → SndL m.1.cls m.1.name m.2.1 m.2.2.1 m.2.2.2.1 m.2.2.2.2 t := by
  intro ms
  induction ms with
  | nil => intro ts _ y m t h; cases h
  | cons a ms ih =>
    intro ts h y m t h1 h2
    cases ts with
    | nil => cases h2
    | cons b ts =>
      cases y with
      | zero => cases h1; cases h2; exact h.1
      | succ y => exact ih h.2 y m t h1 h2
theorem aSL_all : aSL mTab TL := ⟨sn0, ⟨sn1, ⟨sn2, ⟨sn3, ⟨sn4, ⟨sn5, ⟨sn6, ⟨sn7, ⟨sn8, ⟨sn9, ⟨sn10, ⟨sn11, ⟨sn12, ⟨sn13, ⟨sn14, ⟨sn15, ⟨sn16, ⟨sn17, ⟨sn18, ⟨sn19, ⟨sn20, ⟨sn21, ⟨sn22, ⟨sn23, ⟨sn24, ⟨sn25, ⟨sn26, ⟨sn27, ⟨sn28, ⟨sn29, ⟨sn30, ⟨sn31, ⟨sn32, ⟨sn33, ⟨sn34, ⟨sn35, ⟨sn36, ⟨sn37, ⟨sn38, ⟨sn39, ⟨sn40, ⟨sn41, ⟨sn42, ⟨sn43, ⟨sn44, ⟨sn45, ⟨sn46, ⟨sn47, ⟨sn48, ⟨sn49, ⟨sn50, ⟨sn51, ⟨sn52, ⟨sn53, ⟨sn54, ⟨sn55, ⟨sn56, ⟨sn57, ⟨sn58, ⟨sn59, ⟨sn60, ⟨sn61, ⟨sn62, ⟨sn63, ⟨sn64, ⟨sn65, ⟨sn66, ⟨sn67, ⟨sn68, ⟨sn69, ⟨sn70, ⟨sn71, ⟨sn72, ⟨sn73, ⟨sn74, ⟨sn75, ⟨sn76, ⟨sn77, ⟨sn78, ⟨sn79, ⟨sn80, ⟨sn81, ⟨sn82, ⟨sn83, ⟨sn84, ⟨sn85, ⟨sn86, ⟨sn87, ⟨sn88, ⟨sn89, ⟨sn90, ⟨sn91, ⟨sn92, ⟨sn93, ⟨sn94, ⟨sn95, ⟨sn96, ⟨sn97, ⟨sn98, ⟨sn99, ⟨sn100, ⟨sn101, ⟨sn102, ⟨sn103, ⟨sn104, ⟨sn105, ⟨sn106, ⟨sn107, ⟨sn108, ⟨sn109, ⟨sn110, ⟨sn111, ⟨sn112, ⟨sn113, ⟨sn114, ⟨sn115, ⟨sn116, ⟨sn117, ⟨sn118, ⟨sn119, ⟨sn120, ⟨sn121, ⟨sn122, ⟨sn123, ⟨sn124, ⟨sn125, ⟨sn126, ⟨sn127, ⟨sn128, ⟨sn129, ⟨sn130, ⟨sn131, ⟨sn132, ⟨sn133, ⟨sn134, ⟨sn135, ⟨sn136, ⟨sn137, ⟨sn138, ⟨sn139, ⟨sn140, ⟨sn141, ⟨sn142, ⟨sn143, ⟨sn144, ⟨sn145, ⟨sn146, ⟨sn147, ⟨sn148, ⟨sn149, ⟨sn150, ⟨sn151, ⟨sn152, ⟨sn153, ⟨sn154, ⟨sn155, ⟨sn156, ⟨sn157, ⟨sn158, ⟨sn159, ⟨sn160, ⟨sn161, ⟨sn162, ⟨sn163, ⟨sn164, ⟨sn165, ⟨sn166, ⟨sn167, ⟨sn168, ⟨sn169, ⟨sn170, ⟨sn171, ⟨sn172, ⟨sn173, ⟨sn174, ⟨sn175, ⟨sn176, ⟨sn177, ⟨sn178, ⟨sn179, ⟨sn180, ⟨sn181, ⟨sn182, ⟨sn183, ⟨sn184, ⟨sn185, ⟨sn186, ⟨sn187, ⟨sn188, ⟨sn189, ⟨sn190, ⟨sn191, ⟨sn192, ⟨sn193, ⟨sn194, ⟨sn195, ⟨sn196, ⟨sn197, ⟨sn198, ⟨sn199, ⟨sn200, ⟨sn201, ⟨sn202, ⟨sn203, ⟨sn204, ⟨sn205, ⟨sn206, ⟨sn207, ⟨sn208, ⟨sn209, ⟨sn210, ⟨sn211, ⟨sn212, ⟨sn213, ⟨sn214, ⟨sn215, ⟨sn216, ⟨sn217, ⟨sn218, ⟨sn219, ⟨sn220, ⟨sn221, ⟨sn222, ⟨sn223, ⟨sn224, ⟨sn225, ⟨sn226, ⟨sn227, ⟨sn228, ⟨sn229, ⟨sn230, ⟨sn231, ⟨sn232, ⟨sn233, ⟨sn234, ⟨sn235, ⟨sn236, ⟨sn237, ⟨sn238, ⟨sn239, ⟨sn240, ⟨sn241, ⟨sn242, ⟨sn243, ⟨sn244, ⟨sn245, ⟨sn246, ⟨sn247, ⟨sn248, ⟨sn249, ⟨sn250, ⟨sn251, ⟨sn252, ⟨sn253, ⟨sn254, ⟨sn255, ⟨sn256, ⟨sn257, ⟨sn258, ⟨sn259, ⟨sn260, ⟨sn261, ⟨sn262, ⟨sn263, ⟨sn264, ⟨sn265, ⟨sn266, ⟨sn267, ⟨sn268, ⟨sn269, ⟨sn270, ⟨sn271, ⟨sn272, ⟨sn273, ⟨sn274, ⟨sn275, ⟨sn276, ⟨sn277, ⟨sn278, ⟨sn279, ⟨sn280, ⟨sn281, ⟨sn282, ⟨sn283, ⟨sn284, ⟨sn285, ⟨sn286, ⟨sn287, ⟨sn288, ⟨sn289, ⟨sn290, ⟨sn291, ⟨sn292, ⟨sn293, ⟨sn294, ⟨sn295, ⟨sn296, ⟨sn297, ⟨sn298, ⟨sn299, ⟨sn300, ⟨sn301, ⟨sn302, ⟨sn303, ⟨sn304, ⟨sn305, ⟨sn306, ⟨sn307, ⟨sn308, ⟨sn309, ⟨sn310, ⟨sn311, ⟨sn312, ⟨sn313, ⟨sn314, ⟨sn315, ⟨sn316, ⟨sn317, ⟨sn318, ⟨sn319, ⟨sn320, ⟨sn321, ⟨sn322, ⟨sn323, ⟨sn324, ⟨sn325, ⟨sn326, ⟨sn327, ⟨sn328, ⟨sn329, ⟨sn330, ⟨sn331, ⟨sn332, ⟨sn333, ⟨sn334, ⟨sn335, ⟨sn336, ⟨sn337, ⟨sn338, ⟨sn339, ⟨sn340, trivial⟩⟩⟩⟩⟩⟩⟩⟩⟩⟩⟩⟩⟩⟩⟩⟩⟩⟩⟩⟩⟩⟩⟩⟩⟩⟩⟩⟩⟩⟩⟩⟩⟩⟩⟩⟩⟩⟩⟩⟩⟩⟩⟩⟩⟩⟩⟩⟩⟩⟩⟩⟩⟩⟩⟩⟩⟩⟩⟩⟩⟩⟩⟩⟩⟩⟩⟩⟩⟩⟩⟩⟩⟩⟩⟩⟩⟩⟩⟩⟩⟩⟩⟩⟩⟩⟩⟩⟩⟩⟩⟩⟩⟩⟩⟩⟩⟩⟩⟩⟩⟩⟩⟩⟩⟩⟩⟩⟩⟩⟩⟩⟩⟩⟩⟩⟩⟩⟩⟩⟩⟩⟩⟩⟩⟩⟩⟩⟩⟩⟩⟩⟩⟩⟩⟩⟩⟩⟩⟩⟩⟩⟩⟩⟩⟩⟩⟩⟩⟩⟩⟩⟩⟩⟩⟩⟩⟩⟩⟩⟩⟩⟩⟩⟩⟩⟩⟩⟩⟩⟩⟩⟩⟩⟩⟩⟩⟩⟩⟩⟩⟩⟩⟩⟩⟩⟩⟩⟩⟩⟩⟩⟩⟩⟩⟩⟩⟩⟩⟩⟩⟩⟩⟩⟩⟩⟩⟩⟩⟩⟩⟩⟩⟩⟩⟩⟩⟩⟩⟩⟩⟩⟩⟩⟩⟩⟩⟩⟩⟩⟩⟩⟩⟩⟩⟩⟩⟩⟩⟩⟩⟩⟩⟩⟩⟩⟩⟩⟩⟩⟩⟩⟩⟩⟩⟩⟩⟩⟩⟩⟩⟩⟩⟩⟩⟩⟩⟩⟩⟩⟩⟩⟩⟩⟩⟩⟩⟩⟩⟩⟩⟩⟩⟩⟩⟩⟩⟩⟩⟩⟩⟩⟩⟩⟩⟩⟩⟩⟩⟩⟩⟩⟩⟩⟩⟩⟩⟩⟩⟩⟩⟩⟩⟩⟩⟩⟩⟩⟩⟩⟩⟩⟩⟩⟩⟩⟩⟩⟩⟩⟩⟩⟩⟩⟩⟩⟩⟩⟩⟩⟩⟩
theorem mTab_len : mTab.length = 341 := by decide +kernel
theorem TL_len : TL.length = 341 := rfl
theorem mTab_plain : mTab.all (fun q => plainName q.1.cls || (q.2.2.2.2.isEmpty && plainFor q.1)) = true := by decide +kernel
/-- a body without handlers, by the method's name -/
theorem vx_ofN {l : Launch} {y : MethodName} {ws ws' : List Cond} {rm : Room} {Pc : Array Value → State → Prop} {Qc : Array Value → State → Outcome → State → Prop} {XC : String → State → State → Prop} {mc ms : Nat} {free : Addr → Prop} {cc : ByteArray} {maxL : Nat} {ret : Option FieldType}
    (hy : plainFor y = true) (hw : ws = Cond.code y cc maxL ret :: ws')
    (body : ∀ p e s m args below meth c s₁, BodyLoose p l y (headSpec ws rm) cc maxL ret e s m args below meth c s₁ → c.maxLocals = maxL → (∀ x ∈ c.exceptionTable.toList, False) → Pc args s →
      W p l e (headSpec ws rm).room s m args below meth c s.heap [] 0 0 (vx_MQ below Qc XC args s mc ms free) (entryFrame m args maxL)) : vx_Met l y ws rm Pc Qc XC mc ms free := by
  have hc : ∀ (args : Array Value) (s : State), (headSpec ws rm).pre.before args s = true → (Cond.code y cc maxL ret).before args s = true := fun args s h => atoms_spec (ws := ws) h _ (by rw [hw]; exact List.mem_cons_self)
  refine MetFree.of_bodySF (code := cc) (maxLocals := maxL) (ret := ret) hy (fun args s m h hn => ?_) fun p e s m args below meth c s₁ B hml hP _ => ?_
  · obtain ⟨meth, c, h1, h2, h3, h4, h5, h6, -⟩ := Cond.code_spec hn (hc args s h)
    exact ⟨meth, c, h1, h2, h3, h4, h5, h6⟩
  · obtain ⟨meth9, c9, h1, h2, -, -, -, -, h7, -⟩ := Cond.code_spec B.named (hc args s B.pre)
    cases Option.some.inj (h1.symm.trans B.method)
    cases Option.some.inj (h2.symm.trans (Stand.of_body B).code)
    obtain ⟨t, a1, o, b1, b2, b3⟩ := body p e s m args below meth c s₁ B hml (fun x hx => by rw [Array.isEmpty_iff.mp h7] at hx; cases hx) hP s₁ (by rw [B.state]; rfl) (Stand.of_body B)
    exact ⟨t, o, a1, b1, b2, b3⟩
theorem aLk_snd {own nm : String} {cc : ByteArray} {nL : Nat} {ret : Option FieldType} {hh : List (Nat × Nat × Nat × Nat)} {T : aT} (h : SndL own nm cc nL ret hh T) (pc : Nat) : Snd own nm cc nL ret hh pc (fun σ => aLk T σ pc) := by
  intro σ D dA A p l e R s m args below meth c d mc ms C P M hn hC ls st h9 k sl q
  revert q
  induction T with
  | nil => intro q; exact q.elim
  | cons a r ih =>
    intro q
    have e9 : aLk (a :: r) σ pc = bif Nat.beq pc a.1 then a.2 σ else aLk r σ pc := rfl
    rw [e9] at q
    cases hb : Nat.beq pc a.1 with
    | true =>
      rw [hb] at q
      have hpc : pc = a.1 := Nat.eq_of_beq_eq_true hb
      subst hpc
      exact h a List.mem_cons_self σ D dA A p l e R s m args below meth c d mc ms C P M hn hC ls st h9 k sl q
    | false =>
      rw [hb] at q
      exact ih (fun z hz => h z (List.mem_cons_of_mem _ hz)) q
theorem lay_sl : ∀ as : List Value, (lay as).length = (lg_sl as).length ∧ ∀ (i : Nat) (v : Value), (lay as)[i]? = some v → v ≠ jk → (lg_sl as)[i]? = some (.val v) := by
  intro as
  induction as with
  | nil => exact ⟨rfl, fun i v h => by cases h⟩
  | cons a r ih =>
    have one : ∀ w : Value, w.category = 1 → lay (w :: r) = w :: lay r → lg_sl (w :: r) = Slot.val w :: lg_sl r → ((lay (w :: r)).length = (lg_sl (w :: r)).length ∧ ∀ (i : Nat) (v : Value), (lay (w :: r))[i]? = some v → v ≠ jk → (lg_sl (w :: r))[i]? = some (.val v)) := by
      intro w hw e1 e2
      rw [e1, e2]
      refine ⟨by simp [ih.1], fun i v h hv => ?_⟩
      cases i with
      | zero => cases h; rfl
      | succ i => exact ih.2 i v h hv
    have two : ∀ w : Value, lay (w :: r) = w :: jk :: lay r → lg_sl (w :: r) = Slot.val w :: Slot.second :: lg_sl r → ((lay (w :: r)).length = (lg_sl (w :: r)).length ∧ ∀ (i : Nat) (v : Value), (lay (w :: r))[i]? = some v → v ≠ jk → (lg_sl (w :: r))[i]? = some (.val v)) := by
      intro w e1 e2
      rw [e1, e2]
      refine ⟨by simp [ih.1], fun i v h hv => ?_⟩
      match i with
      | 0 => cases h; rfl
      | 1 => cases h; exact absurd rfl hv
      | i + 2 => exact ih.2 i v h hv
    cases a with
    | long x => exact two _ rfl (by simp [lg_sl, Value.category])
    | double x => exact two _ rfl (by simp [lg_sl, Value.category])
    | int x => exact one _ rfl rfl (by simp [lg_sl, Value.category])
    | float x => exact one _ rfl rfl (by simp [lg_sl, Value.category])
    | null => exact one _ rfl rfl (by simp [lg_sl, Value.category])
    | ref x => exact one _ rfl rfl (by simp [lg_sl, Value.category])
    | retAddr x => exact one _ rfl rfl (by simp [lg_sl, Value.category])
theorem LR_entry {as : List Value} {n : Nat} (h : (lay as).length ≤ n) : LR (lays as n) ((lg_sl as ++ List.replicate (n - (lg_sl as).length) Slot.unset).toArray) n := by
  have hs := lay_sl as
  have hl := lv_entry as (n := n) (by rw [← hs.1]; exact h)
  refine ⟨by unfold lays; simp; omega, hl.1, hl.2.1, fun i v hv hne => ?_⟩
  unfold lays at hv
  by_cases hi : i < (lay as).length
  · rw [List.getElem?_append_left hi] at hv
    rw [List.getElem?_toArray, List.getElem?_append_left (by rw [← hs.1]; exact hi)]
    exact hs.2 i v hv hne
  · rw [List.getElem?_append_right (by omega)] at hv
    have := List.eq_of_mem_replicate (List.mem_of_getElem? hv)
    exact absurd this hne
theorem sim_body {σ : Nat → Value} {D : va_G} {dA : Nat → ClassId} {A : Nat → Prop} {l : Launch} (hl : l.stackTraces = false) {d y mc ms : Nat} {as : List Value} {h : aH} {P : aO → aH → Prop} {C : aC} (hC : CH σ D dA A l C (d + 1)) {yn : MethodName} {cc : ByteArray} {nL : Nat} {ret : Option FieldType} {hh : List (Nat × Nat × Nat × Nat)} {T : aT} (hT : SndL yn.cls yn.name cc nL ret hh T) (hpl : (plainName yn.cls || (hh.isEmpty && plainFor yn)) = true) (has : (lay as).length ≤ nL)
    (q : Rn (aLk T σ) (C, d + 1, mc, ms, fun o h' k s => k ≤ mc ∧ s ≤ ms ∧ P o h') 0 (lays as nL) [] h 0 0) : vx_Met l yn (mWs yn cc nL ret hh) (aRm (d + 1) mc ms) (aPc σ D dA A as h) (aQc D dA A P) (aXC D dA A P) mc ms A := by
  have main : ∀ (p : Program) (e : Env) (s : State) (m : MethodId) (args : Array Value) (below : List Frame) (meth : Method) (c : Code), MC σ D dA A p l (aRm (d + 1) mc ms) s m args meth c yn.cls cc nL ret hh (d + 1) mc ms → meth.name = yn.name → RH D dA A h s.heap → args = as.toArray → W p l e (aRm (d + 1) mc ms) s m args below meth c s.heap [] 0 0 (vx_MQ below (aQc D dA A P) (aXC D dA A P) args s mc ms A) (entryFrame m args nL) := by
    intro p e s m args below meth c M hn hR ha
    have hX := q (XW D dA A p l e (aRm (d + 1) mc ms) s m args below meth c nL (vx_MQ below (aQc D dA A P) (aXC D dA A P) args s mc ms A)) (fun pc ls st h k sl z => aLk_snd hT pc σ D dA A p l e _ s m args below meth c (d + 1) mc ms C P M hn hC ls st h k sl z)
    subst ha
    rw [lg_entry_eq]
    exact hX s.heap [] _ hR va_S.rf (LR_entry has)
  cases hh with
  | nil =>
    refine vx_ofN (cc := cc) (maxL := nL) (ret := ret) (by cases hq : plainName yn.cls with
      | true => exact plainFor_of_name hq
      | false => rw [hq] at hpl; simpa using hpl) rfl ?_
    intro p e s m args below meth c s₁ B hml htb hv
    obtain ⟨ha, hR, hE, hA⟩ := hv
    have hts := atoms_spec (ws := ws_ yn cc nL ret) B.pre
    exact main p e s m args below meth c ⟨B.exec, B.bytes, hml, findClass_of_methodNamed B.named, fun w h => hts w (List.mem_cons_of_mem _ h), B.notSynchronized, B.returns, rfl, hA, hl, hE, by
      cases hx : c.exceptionTable.toList with
      | nil => rfl
      | cons x r => exact (htb x (by rw [hx]; exact List.mem_cons_self)).elim⟩ (name_of_methodNamed B.named B.method).1 hR ha
  | cons x hh =>
    refine vx_ofWH (hh := x :: hh) (cc := cc) (maxL := nL) (ret := ret) (by simpa using hpl) rfl ?_
    intro p e s m args below meth c s₁ B hml hv
    obtain ⟨ha, hR, hE, hA⟩ := hv
    have hts := atoms_spec (ws := wsW_ yn cc nL ret (x :: hh)) B.pre
    exact main p e s m args below meth c ⟨B.exec, B.bytes, hml, findClass_of_methodNamed B.named, fun w h => hts w (List.mem_cons_of_mem _ h), B.notSynchronized, B.returns, rfl, hA, hl, hE, vx_table (x := yn) (y := yn) (bytes := cc) (maxL' := nL) (ret' := ret) B (hts _ List.mem_cons_self)⟩ (name_of_methodNamed B.named B.method).1 hR ha
/-- a call of the abstract machine is a contract of the method -/
theorem sim {σ : Nat → Value} {D : va_G} {dA : Nat → ClassId} {A : Nat → Prop} {l : Launch} (hl : l.stackTraces = false) : ∀ d : Nat, CH σ D dA A l (CL σ d) (d + 1) := by
  intro d
  induction d with
  | zero => intro y as h mc ms P q; exact q.elim
  | succ d ih =>
    intro y as h mc ms P q
    refine ⟨by omega, ?_⟩
    obtain ⟨has, q⟩ := q
    show vx_Met l _ _ (aRm (d + 1) mc ms) _ _ _ _ _ _
    by_cases hy : y < 341
    · have h1 : mTab[y]? = some (mAt y) := by
        unfold mAt
        rw [List.getD_eq_getElem?_getD, List.getElem?_eq_getElem (by rw [mTab_len]; exact hy)]
        rfl
      have h2 : TL[y]? = some (TL.getD y []) := by
        rw [List.getD_eq_getElem?_getD, List.getElem?_eq_getElem (by rw [TL_len]; exact hy)]
        rfl
      have h3 := aSL_get aSL_all y _ _ h1 h2
      have h4 : (plainName (mAt y).1.cls || ((mAt y).2.2.2.2.isEmpty && plainFor (mAt y).1)) = true := List.all_eq_true.mp mTab_plain _ (List.mem_of_getElem? h1)
      exact sim_body (y := y) (yn := (mAt y).1) hl ih h3 h4 has q
    · have h2 : aTab σ y = aLk [] σ := by
        unfold aTab
        rw [List.getD_eq_getElem?_getD, List.getElem?_eq_none (by rw [TL_len]; omega)]
        rfl
      rw [h2] at q
      exact (q (fun _ _ _ _ _ _ => False) (fun pc ls st h k s z => z)).elim
