/-! THE MODEL as a picture: S k i is the number of field k (i = 0), or what its array holds at i; L what stateRank holds (printed by gen/gen_model.py) -/
set_option maxRecDepth 100000
-- fields: 0:cellOf[16]@1 1:openOf[16]@2 2:near[64]@3 3:steps[256]@4 4:isWall[16]@5 5:rows 6:columns 7:open 8:thrown 9:lies[16]@6 10:goalOf[16]@7 11:weight[16]@8 12:isFree[16]@9 13:limit 14:back[200]@10 15:macroMany[4]@11 16:macro[32]@12 17:backs 18:imageLies[32]@13 19:imageGoal[32]@14 20:imageWeight[32]@15 21:imageFree[32]@16 22:isKept[2]@17 23:wasWall[16]@18 24:isMet[16]@19 25:isUsed[16]@20 26:lineWeight[4]@21 27:lineGoal[4]@22 28:partTile[6]@23 29:partMany[2]@24 30:table[13122]@25 31:partAt[4]@26 32:parts 33:goal[16]@27 34:stateTile[65616]@28 35:stateCost[4101]@29 36:stateEstimate[4101]@30 37:stateFrom[4101]@31 38:stateMove[4101]@32 39:bucket[16384]@33 40:stateRank[4101]@34 41:isTaken[4101]@35 42:states 43:row[16]@36 44:way[4101]@37 45:aside[4101]@38 46:wayMany 47:taken 48:rounds 49:toldWay 50:asideMany 51:asideTaken 52:asideRounds 53:bound 54:beyond 55:byEstimate 56:isRefused 57:nextAt[1001]@39 58:costAt[1001]@40 59:fromAt[1001]@41 60:ringOf[8202]@42 61:costOf[720]@43 62:nextOf[2880]@44 63:nextCost[2880]@45 64:manyWays[720]@46 65:all 66:estimateOf[720]@47
def moff : List Nat := [1, 2, 3, 4, 5, 0, 0, 0, 0, 6, 7, 8, 9, 0, 10, 11, 12, 0, 13, 14, 15, 16, 17, 18, 19, 20, 21, 22, 23, 24, 25, 26, 0, 27, 28, 29, 30, 31, 32, 33, 34, 35, 0, 36, 37, 38, 0, 0, 0, 0, 0, 0, 0, 0, 0, 0, 0, 39, 40, 41, 42, 43, 44, 45, 46, 0, 47]
def mfld : List Nat := [67, 0, 1, 2, 3, 4, 9, 10, 11, 12, 14, 15, 16, 18, 19, 20, 21, 22, 23, 24, 25, 26, 27, 28, 29, 30, 31, 33, 34, 35, 36, 37, 38, 39, 40, 41, 43, 44, 45, 57, 58, 59, 60, 61, 62, 63, 64, 66]
def mknd : List Nat := [0, 0, 0, 0, 0, 1, 0, 0, 0, 1, 0, 0, 0, 0, 0, 0, 1, 1, 1, 1, 1, 0, 0, 0, 0, 0, 0, 0, 0, 0, 0, 0, 0, 0, 2, 1, 0, 0, 0, 0, 0, 0, 0, 0, 0, 0, 0, 0]
def mlen : List Nat := [0, 16, 16, 64, 256, 16, 16, 16, 16, 16, 200, 4, 32, 32, 32, 32, 32, 2, 16, 16, 16, 4, 4, 6, 2, 13122, 4, 16, 65616, 4101, 4101, 4101, 4101, 16384, 4101, 4101, 16, 4101, 4101, 1001, 1001, 1001, 8202, 720, 2880, 2880, 720, 720]
abbrev mS : Type := Nat → Nat → Int32
def su (S : mS) (k i : Nat) (v : Int32) : mS := fun a b => if a = k ∧ b = i then v else S a b
def mfs (m : Nat) (S : mS) : List Value := (List.range 67).map fun k => if moff.getD k 0 = 0 then .int (S k 0) else .ref (m + moff.getD k 0)
def mcell (m : Nat) (S : mS) (L : Nat → Int64) (j : Nat) : aE := if j = 0 then .inr (21, mfs m S) else if j = 34 then .inl (2, 4101, .inr (.inl L)) else .inl (mknd.getD j 0, mlen.getD j 0, .inl (S (mfld.getD j 0)))
def mh (h : aH) (m : Nat) (S : mS) (L : Nat → Int64) : aH := (h.1, fun x => if m ≤ x ∧ x < m + 48 then some (mcell m S L (x - m)) else h.2 x)
theorem mh_1 (h : aH) (m : Nat) (S : mS) (L : Nat → Int64) : (mh h m S L).1 = h.1 := rfl
theorem mh_at (h : aH) (m : Nat) (S : mS) (L : Nat → Int64) (j : Nat) (hj : j < 48) : (mh h m S L).2 (m + j) = some (mcell m S L j) := by
  unfold mh
  simp only []
  rw [if_pos ⟨by omega, by omega⟩, Nat.add_sub_cancel_left]
theorem mh_m (h : aH) (m : Nat) (S : mS) (L : Nat → Int64) : (mh h m S L).2 m = some (.inr (21, mfs m S)) := mh_at h m S L 0 (by decide)
theorem mh_out (h : aH) (m : Nat) (S : mS) (L : Nat → Int64) {x : Nat} (hx : x < m ∨ m + 48 ≤ x) : (mh h m S L).2 x = h.2 x := by
  unfold mh
  simp only []
  rw [if_neg (by omega)]
theorem su_at (S : mS) (k i : Nat) (v : Int32) : su S k i v k = upd (S k) i v := by
  funext b
  unfold su upd
  simp
theorem su_ne (S : mS) {k a : Nat} (h : a ≠ k) (i : Nat) (v : Int32) : su S k i v a = S a := by
  funext b
  unfold su
  rw [if_neg (fun z => h z.1)]
theorem su_same (S : mS) (k i : Nat) (v : Int32) : su S k i v k i = v := by simp [su]
theorem mfs_get (m : Nat) (S : mS) {k : Nat} (hk : k < 67) : (mfs m S)[k]? = some (if moff.getD k 0 = 0 then .int (S k 0) else .ref (m + moff.getD k 0)) := by
  unfold mfs
  rw [List.getElem?_map, List.getElem?_range hk]
  rfl
theorem mfs_len (m : Nat) (S : mS) : (mfs m S).length = 67 := by simp [mfs]
theorem mfs_su (m : Nat) (S : mS) {k : Nat} (hk : moff.getD k 0 ≠ 0) (i : Nat) (v : Int32) : mfs m (su S k i v) = mfs m S := by
  unfold mfs
  refine List.map_congr_left fun a _ => ?_
  by_cases h : moff.getD a 0 = 0
  · rw [if_pos h, if_pos h, su_ne S (fun e => hk (by rw [← e]; exact h))]
  · rw [if_neg h, if_neg h]
theorem mfs_set (m : Nat) (S : mS) {k : Nat} (hk : k < 67) (h0 : moff.getD k 0 = 0) (v : Int32) : (mfs m S).set k (.int v) = mfs m (su S k 0 v) := by
  refine List.ext_getElem? fun a => ?_
  rw [List.getElem?_set]
  by_cases ha : a < 67
  · rw [mfs_get m S ha, mfs_len, mfs_get m (su S k 0 v) ha]
    by_cases e : k = a
    · subst e
      rw [if_pos rfl, if_pos hk, if_pos h0, su_same]
    · rw [if_neg e, su_ne S (fun z => e z.symm)]
  · rw [List.getElem?_eq_none (by rw [mfs_len]; omega), if_neg (by omega), List.getElem?_eq_none (by rw [mfs_len]; omega)]
theorem mh_set (h : aH) (m : Nat) (S S' : mS) (L L' : Nat → Int64) {j : Nat} (hj : j < 48) (ho : ∀ i, i < 48 → i ≠ j → mcell m S' L' i = mcell m S L i) : hu (mh h m S L) (m + j) (mcell m S' L' j) = mh h m S' L' := by
  unfold hu mh
  refine Prod.ext rfl (funext fun x => ?_)
  simp only []
  by_cases e : x = m + j
  · subst e
    rw [if_pos rfl, if_pos ⟨by omega, by omega⟩, Nat.add_sub_cancel_left]
  · rw [if_neg e]
    by_cases g : m ≤ x ∧ x < m + 48
    · rw [if_pos g, if_pos g, ho (x - m) (by omega) (by omega)]
    · rw [if_neg g, if_neg g]
theorem mfld_inj : ∀ j, j < 48 → ∀ i, i < 48 → 0 < i → 0 < j → mfld.getD j 0 = mfld.getD i 0 → i = j := by decide +kernel
theorem mfld_arr : ∀ j, j < 48 → 0 < j → moff.getD (mfld.getD j 0) 0 ≠ 0 := by decide +kernel
theorem mh_put (h : aH) (m : Nat) (S : mS) (L : Nat → Int64) {k : Nat} (hk : k < 67) (h0 : moff.getD k 0 = 0) (v : Int32) : hu (mh h m S L) m (.inr (21, (mfs m S).set k (.int v))) = mh h m (su S k 0 v) L := by
  rw [mfs_set m S hk h0]
  refine mh_set h m S (su S k 0 v) L L (j := 0) (by decide) fun i hi h1 => ?_
  unfold mcell
  rw [if_neg h1, if_neg h1]
  by_cases h2 : i = 34
  · rw [if_pos h2, if_pos h2]
  · rw [if_neg h2, if_neg h2, su_ne S]
    intro e
    exact mfld_arr i hi (by omega) (by rw [e]; exact h0)
theorem mh_ast (h : aH) (m : Nat) (S : mS) (L : Nat → Int64) {j : Nat} (hj : j < 48) (hj0 : 0 < j) (hjl : j ≠ 34) (i : Nat) (v : Int32) : hu (mh h m S L) (m + j) (.inl (mknd.getD j 0, mlen.getD j 0, .inl (upd (S (mfld.getD j 0)) i v))) = mh h m (su S (mfld.getD j 0) i v) L := by
  have e : mcell m (su S (mfld.getD j 0) i v) L j = .inl (mknd.getD j 0, mlen.getD j 0, .inl (upd (S (mfld.getD j 0)) i v)) := by
    unfold mcell
    rw [if_neg (by omega), if_neg hjl, su_at]
  rw [← e]
  refine mh_set h m S _ L L hj fun a ha h1 => ?_
  unfold mcell
  by_cases a0 : a = 0
  · rw [if_pos a0, if_pos a0, mfs_su m S (mfld_arr j hj hj0)]
  · rw [if_neg a0, if_neg a0]
    by_cases h2 : a = 34
    · rw [if_pos h2, if_pos h2]
    · rw [if_neg h2, if_neg h2, su_ne S]
      intro e
      exact h1 (mfld_inj j hj a ha (by omega) hj0 e.symm)
theorem mh_lst (h : aH) (m : Nat) (S : mS) (L : Nat → Int64) (i : Nat) (v : Int64) : hu (mh h m S L) (m + 34) (.inl (2, 4101, .inr (.inl (vp_updL L i v)))) = mh h m S (vp_updL L i v) := by
  have e : mcell m S (vp_updL L i v) 34 = .inl (2, 4101, .inr (.inl (vp_updL L i v))) := rfl
  rw [← e]
  refine mh_set h m S _ L _ (by decide) fun a ha h1 => ?_
  unfold mcell
  rw [if_neg h1, if_neg h1]
theorem mf0 (m : Nat) (S : mS) : (mfs m S)[0]? = some (.ref (m + 1)) := mfs_get m S (k := 0) (by decide)
theorem mf1 (m : Nat) (S : mS) : (mfs m S)[1]? = some (.ref (m + 2)) := mfs_get m S (k := 1) (by decide)
theorem mf2 (m : Nat) (S : mS) : (mfs m S)[2]? = some (.ref (m + 3)) := mfs_get m S (k := 2) (by decide)
theorem mf3 (m : Nat) (S : mS) : (mfs m S)[3]? = some (.ref (m + 4)) := mfs_get m S (k := 3) (by decide)
theorem mf4 (m : Nat) (S : mS) : (mfs m S)[4]? = some (.ref (m + 5)) := mfs_get m S (k := 4) (by decide)
theorem mf5 (m : Nat) (S : mS) : (mfs m S)[5]? = some (.int (S 5 0)) := mfs_get m S (k := 5) (by decide)
theorem mf6 (m : Nat) (S : mS) : (mfs m S)[6]? = some (.int (S 6 0)) := mfs_get m S (k := 6) (by decide)
theorem mf7 (m : Nat) (S : mS) : (mfs m S)[7]? = some (.int (S 7 0)) := mfs_get m S (k := 7) (by decide)
theorem mf8 (m : Nat) (S : mS) : (mfs m S)[8]? = some (.int (S 8 0)) := mfs_get m S (k := 8) (by decide)
theorem mf9 (m : Nat) (S : mS) : (mfs m S)[9]? = some (.ref (m + 6)) := mfs_get m S (k := 9) (by decide)
theorem mf10 (m : Nat) (S : mS) : (mfs m S)[10]? = some (.ref (m + 7)) := mfs_get m S (k := 10) (by decide)
theorem mf11 (m : Nat) (S : mS) : (mfs m S)[11]? = some (.ref (m + 8)) := mfs_get m S (k := 11) (by decide)
theorem mf12 (m : Nat) (S : mS) : (mfs m S)[12]? = some (.ref (m + 9)) := mfs_get m S (k := 12) (by decide)
theorem mf13 (m : Nat) (S : mS) : (mfs m S)[13]? = some (.int (S 13 0)) := mfs_get m S (k := 13) (by decide)
theorem mf14 (m : Nat) (S : mS) : (mfs m S)[14]? = some (.ref (m + 10)) := mfs_get m S (k := 14) (by decide)
theorem mf15 (m : Nat) (S : mS) : (mfs m S)[15]? = some (.ref (m + 11)) := mfs_get m S (k := 15) (by decide)
theorem mf16 (m : Nat) (S : mS) : (mfs m S)[16]? = some (.ref (m + 12)) := mfs_get m S (k := 16) (by decide)
theorem mf17 (m : Nat) (S : mS) : (mfs m S)[17]? = some (.int (S 17 0)) := mfs_get m S (k := 17) (by decide)
theorem mf18 (m : Nat) (S : mS) : (mfs m S)[18]? = some (.ref (m + 13)) := mfs_get m S (k := 18) (by decide)
theorem mf19 (m : Nat) (S : mS) : (mfs m S)[19]? = some (.ref (m + 14)) := mfs_get m S (k := 19) (by decide)
theorem mf20 (m : Nat) (S : mS) : (mfs m S)[20]? = some (.ref (m + 15)) := mfs_get m S (k := 20) (by decide)
theorem mf21 (m : Nat) (S : mS) : (mfs m S)[21]? = some (.ref (m + 16)) := mfs_get m S (k := 21) (by decide)
theorem mf22 (m : Nat) (S : mS) : (mfs m S)[22]? = some (.ref (m + 17)) := mfs_get m S (k := 22) (by decide)
theorem mf23 (m : Nat) (S : mS) : (mfs m S)[23]? = some (.ref (m + 18)) := mfs_get m S (k := 23) (by decide)
theorem mf24 (m : Nat) (S : mS) : (mfs m S)[24]? = some (.ref (m + 19)) := mfs_get m S (k := 24) (by decide)
theorem mf25 (m : Nat) (S : mS) : (mfs m S)[25]? = some (.ref (m + 20)) := mfs_get m S (k := 25) (by decide)
theorem mf26 (m : Nat) (S : mS) : (mfs m S)[26]? = some (.ref (m + 21)) := mfs_get m S (k := 26) (by decide)
theorem mf27 (m : Nat) (S : mS) : (mfs m S)[27]? = some (.ref (m + 22)) := mfs_get m S (k := 27) (by decide)
theorem mf28 (m : Nat) (S : mS) : (mfs m S)[28]? = some (.ref (m + 23)) := mfs_get m S (k := 28) (by decide)
theorem mf29 (m : Nat) (S : mS) : (mfs m S)[29]? = some (.ref (m + 24)) := mfs_get m S (k := 29) (by decide)
theorem mf30 (m : Nat) (S : mS) : (mfs m S)[30]? = some (.ref (m + 25)) := mfs_get m S (k := 30) (by decide)
theorem mf31 (m : Nat) (S : mS) : (mfs m S)[31]? = some (.ref (m + 26)) := mfs_get m S (k := 31) (by decide)
theorem mf32 (m : Nat) (S : mS) : (mfs m S)[32]? = some (.int (S 32 0)) := mfs_get m S (k := 32) (by decide)
theorem mf33 (m : Nat) (S : mS) : (mfs m S)[33]? = some (.ref (m + 27)) := mfs_get m S (k := 33) (by decide)
theorem mf34 (m : Nat) (S : mS) : (mfs m S)[34]? = some (.ref (m + 28)) := mfs_get m S (k := 34) (by decide)
theorem mf35 (m : Nat) (S : mS) : (mfs m S)[35]? = some (.ref (m + 29)) := mfs_get m S (k := 35) (by decide)
theorem mf36 (m : Nat) (S : mS) : (mfs m S)[36]? = some (.ref (m + 30)) := mfs_get m S (k := 36) (by decide)
theorem mf37 (m : Nat) (S : mS) : (mfs m S)[37]? = some (.ref (m + 31)) := mfs_get m S (k := 37) (by decide)
theorem mf38 (m : Nat) (S : mS) : (mfs m S)[38]? = some (.ref (m + 32)) := mfs_get m S (k := 38) (by decide)
theorem mf39 (m : Nat) (S : mS) : (mfs m S)[39]? = some (.ref (m + 33)) := mfs_get m S (k := 39) (by decide)
theorem mf40 (m : Nat) (S : mS) : (mfs m S)[40]? = some (.ref (m + 34)) := mfs_get m S (k := 40) (by decide)
theorem mf41 (m : Nat) (S : mS) : (mfs m S)[41]? = some (.ref (m + 35)) := mfs_get m S (k := 41) (by decide)
theorem mf42 (m : Nat) (S : mS) : (mfs m S)[42]? = some (.int (S 42 0)) := mfs_get m S (k := 42) (by decide)
theorem mf43 (m : Nat) (S : mS) : (mfs m S)[43]? = some (.ref (m + 36)) := mfs_get m S (k := 43) (by decide)
theorem mf44 (m : Nat) (S : mS) : (mfs m S)[44]? = some (.ref (m + 37)) := mfs_get m S (k := 44) (by decide)
theorem mf45 (m : Nat) (S : mS) : (mfs m S)[45]? = some (.ref (m + 38)) := mfs_get m S (k := 45) (by decide)
theorem mf46 (m : Nat) (S : mS) : (mfs m S)[46]? = some (.int (S 46 0)) := mfs_get m S (k := 46) (by decide)
theorem mf47 (m : Nat) (S : mS) : (mfs m S)[47]? = some (.int (S 47 0)) := mfs_get m S (k := 47) (by decide)
theorem mf48 (m : Nat) (S : mS) : (mfs m S)[48]? = some (.int (S 48 0)) := mfs_get m S (k := 48) (by decide)
theorem mf49 (m : Nat) (S : mS) : (mfs m S)[49]? = some (.int (S 49 0)) := mfs_get m S (k := 49) (by decide)
theorem mf50 (m : Nat) (S : mS) : (mfs m S)[50]? = some (.int (S 50 0)) := mfs_get m S (k := 50) (by decide)
theorem mf51 (m : Nat) (S : mS) : (mfs m S)[51]? = some (.int (S 51 0)) := mfs_get m S (k := 51) (by decide)
theorem mf52 (m : Nat) (S : mS) : (mfs m S)[52]? = some (.int (S 52 0)) := mfs_get m S (k := 52) (by decide)
theorem mf53 (m : Nat) (S : mS) : (mfs m S)[53]? = some (.int (S 53 0)) := mfs_get m S (k := 53) (by decide)
theorem mf54 (m : Nat) (S : mS) : (mfs m S)[54]? = some (.int (S 54 0)) := mfs_get m S (k := 54) (by decide)
theorem mf55 (m : Nat) (S : mS) : (mfs m S)[55]? = some (.int (S 55 0)) := mfs_get m S (k := 55) (by decide)
theorem mf56 (m : Nat) (S : mS) : (mfs m S)[56]? = some (.int (S 56 0)) := mfs_get m S (k := 56) (by decide)
theorem mf57 (m : Nat) (S : mS) : (mfs m S)[57]? = some (.ref (m + 39)) := mfs_get m S (k := 57) (by decide)
theorem mf58 (m : Nat) (S : mS) : (mfs m S)[58]? = some (.ref (m + 40)) := mfs_get m S (k := 58) (by decide)
theorem mf59 (m : Nat) (S : mS) : (mfs m S)[59]? = some (.ref (m + 41)) := mfs_get m S (k := 59) (by decide)
theorem mf60 (m : Nat) (S : mS) : (mfs m S)[60]? = some (.ref (m + 42)) := mfs_get m S (k := 60) (by decide)
theorem mf61 (m : Nat) (S : mS) : (mfs m S)[61]? = some (.ref (m + 43)) := mfs_get m S (k := 61) (by decide)
theorem mf62 (m : Nat) (S : mS) : (mfs m S)[62]? = some (.ref (m + 44)) := mfs_get m S (k := 62) (by decide)
theorem mf63 (m : Nat) (S : mS) : (mfs m S)[63]? = some (.ref (m + 45)) := mfs_get m S (k := 63) (by decide)
theorem mf64 (m : Nat) (S : mS) : (mfs m S)[64]? = some (.ref (m + 46)) := mfs_get m S (k := 64) (by decide)
theorem mf65 (m : Nat) (S : mS) : (mfs m S)[65]? = some (.int (S 65 0)) := mfs_get m S (k := 65) (by decide)
theorem mf66 (m : Nat) (S : mS) : (mfs m S)[66]? = some (.ref (m + 47)) := mfs_get m S (k := 66) (by decide)
theorem ma0 (h : aH) (m : Nat) (S : mS) (L : Nat → Int64) : (mh h m S L).2 (m + 1) = some (.inl (0, 16, .inl (S 0))) := mh_at h m S L 1 (by decide)
theorem mp0 (h : aH) (m : Nat) (S : mS) (L : Nat → Int64) (i : Nat) (v : Int32) : hu (mh h m S L) (m + 1) (.inl (0, 16, .inl (upd (S 0) i v))) = mh h m (su S 0 i v) L := mh_ast h m S L (j := 1) (by decide) (by decide) (by decide) i v
theorem ma1 (h : aH) (m : Nat) (S : mS) (L : Nat → Int64) : (mh h m S L).2 (m + 2) = some (.inl (0, 16, .inl (S 1))) := mh_at h m S L 2 (by decide)
theorem mp1 (h : aH) (m : Nat) (S : mS) (L : Nat → Int64) (i : Nat) (v : Int32) : hu (mh h m S L) (m + 2) (.inl (0, 16, .inl (upd (S 1) i v))) = mh h m (su S 1 i v) L := mh_ast h m S L (j := 2) (by decide) (by decide) (by decide) i v
theorem ma2 (h : aH) (m : Nat) (S : mS) (L : Nat → Int64) : (mh h m S L).2 (m + 3) = some (.inl (0, 64, .inl (S 2))) := mh_at h m S L 3 (by decide)
theorem mp2 (h : aH) (m : Nat) (S : mS) (L : Nat → Int64) (i : Nat) (v : Int32) : hu (mh h m S L) (m + 3) (.inl (0, 64, .inl (upd (S 2) i v))) = mh h m (su S 2 i v) L := mh_ast h m S L (j := 3) (by decide) (by decide) (by decide) i v
theorem ma3 (h : aH) (m : Nat) (S : mS) (L : Nat → Int64) : (mh h m S L).2 (m + 4) = some (.inl (0, 256, .inl (S 3))) := mh_at h m S L 4 (by decide)
theorem mp3 (h : aH) (m : Nat) (S : mS) (L : Nat → Int64) (i : Nat) (v : Int32) : hu (mh h m S L) (m + 4) (.inl (0, 256, .inl (upd (S 3) i v))) = mh h m (su S 3 i v) L := mh_ast h m S L (j := 4) (by decide) (by decide) (by decide) i v
theorem ma4 (h : aH) (m : Nat) (S : mS) (L : Nat → Int64) : (mh h m S L).2 (m + 5) = some (.inl (1, 16, .inl (S 4))) := mh_at h m S L 5 (by decide)
theorem mp4 (h : aH) (m : Nat) (S : mS) (L : Nat → Int64) (i : Nat) (v : Int32) : hu (mh h m S L) (m + 5) (.inl (1, 16, .inl (upd (S 4) i v))) = mh h m (su S 4 i v) L := mh_ast h m S L (j := 5) (by decide) (by decide) (by decide) i v
theorem mp5 (h : aH) (m : Nat) (S : mS) (L : Nat → Int64) (v : Int32) : hu (mh h m S L) m (.inr (21, (mfs m S).set 5 (.int v))) = mh h m (su S 5 0 v) L := mh_put h m S L (k := 5) (by decide) rfl v
theorem mp6 (h : aH) (m : Nat) (S : mS) (L : Nat → Int64) (v : Int32) : hu (mh h m S L) m (.inr (21, (mfs m S).set 6 (.int v))) = mh h m (su S 6 0 v) L := mh_put h m S L (k := 6) (by decide) rfl v
theorem mp7 (h : aH) (m : Nat) (S : mS) (L : Nat → Int64) (v : Int32) : hu (mh h m S L) m (.inr (21, (mfs m S).set 7 (.int v))) = mh h m (su S 7 0 v) L := mh_put h m S L (k := 7) (by decide) rfl v
theorem mp8 (h : aH) (m : Nat) (S : mS) (L : Nat → Int64) (v : Int32) : hu (mh h m S L) m (.inr (21, (mfs m S).set 8 (.int v))) = mh h m (su S 8 0 v) L := mh_put h m S L (k := 8) (by decide) rfl v
theorem ma9 (h : aH) (m : Nat) (S : mS) (L : Nat → Int64) : (mh h m S L).2 (m + 6) = some (.inl (0, 16, .inl (S 9))) := mh_at h m S L 6 (by decide)
theorem mp9 (h : aH) (m : Nat) (S : mS) (L : Nat → Int64) (i : Nat) (v : Int32) : hu (mh h m S L) (m + 6) (.inl (0, 16, .inl (upd (S 9) i v))) = mh h m (su S 9 i v) L := mh_ast h m S L (j := 6) (by decide) (by decide) (by decide) i v
theorem ma10 (h : aH) (m : Nat) (S : mS) (L : Nat → Int64) : (mh h m S L).2 (m + 7) = some (.inl (0, 16, .inl (S 10))) := mh_at h m S L 7 (by decide)
theorem mp10 (h : aH) (m : Nat) (S : mS) (L : Nat → Int64) (i : Nat) (v : Int32) : hu (mh h m S L) (m + 7) (.inl (0, 16, .inl (upd (S 10) i v))) = mh h m (su S 10 i v) L := mh_ast h m S L (j := 7) (by decide) (by decide) (by decide) i v
theorem ma11 (h : aH) (m : Nat) (S : mS) (L : Nat → Int64) : (mh h m S L).2 (m + 8) = some (.inl (0, 16, .inl (S 11))) := mh_at h m S L 8 (by decide)
theorem mp11 (h : aH) (m : Nat) (S : mS) (L : Nat → Int64) (i : Nat) (v : Int32) : hu (mh h m S L) (m + 8) (.inl (0, 16, .inl (upd (S 11) i v))) = mh h m (su S 11 i v) L := mh_ast h m S L (j := 8) (by decide) (by decide) (by decide) i v
theorem ma12 (h : aH) (m : Nat) (S : mS) (L : Nat → Int64) : (mh h m S L).2 (m + 9) = some (.inl (1, 16, .inl (S 12))) := mh_at h m S L 9 (by decide)
theorem mp12 (h : aH) (m : Nat) (S : mS) (L : Nat → Int64) (i : Nat) (v : Int32) : hu (mh h m S L) (m + 9) (.inl (1, 16, .inl (upd (S 12) i v))) = mh h m (su S 12 i v) L := mh_ast h m S L (j := 9) (by decide) (by decide) (by decide) i v
theorem mp13 (h : aH) (m : Nat) (S : mS) (L : Nat → Int64) (v : Int32) : hu (mh h m S L) m (.inr (21, (mfs m S).set 13 (.int v))) = mh h m (su S 13 0 v) L := mh_put h m S L (k := 13) (by decide) rfl v
theorem ma14 (h : aH) (m : Nat) (S : mS) (L : Nat → Int64) : (mh h m S L).2 (m + 10) = some (.inl (0, 200, .inl (S 14))) := mh_at h m S L 10 (by decide)
theorem mp14 (h : aH) (m : Nat) (S : mS) (L : Nat → Int64) (i : Nat) (v : Int32) : hu (mh h m S L) (m + 10) (.inl (0, 200, .inl (upd (S 14) i v))) = mh h m (su S 14 i v) L := mh_ast h m S L (j := 10) (by decide) (by decide) (by decide) i v
theorem ma15 (h : aH) (m : Nat) (S : mS) (L : Nat → Int64) : (mh h m S L).2 (m + 11) = some (.inl (0, 4, .inl (S 15))) := mh_at h m S L 11 (by decide)
theorem mp15 (h : aH) (m : Nat) (S : mS) (L : Nat → Int64) (i : Nat) (v : Int32) : hu (mh h m S L) (m + 11) (.inl (0, 4, .inl (upd (S 15) i v))) = mh h m (su S 15 i v) L := mh_ast h m S L (j := 11) (by decide) (by decide) (by decide) i v
theorem ma16 (h : aH) (m : Nat) (S : mS) (L : Nat → Int64) : (mh h m S L).2 (m + 12) = some (.inl (0, 32, .inl (S 16))) := mh_at h m S L 12 (by decide)
theorem mp16 (h : aH) (m : Nat) (S : mS) (L : Nat → Int64) (i : Nat) (v : Int32) : hu (mh h m S L) (m + 12) (.inl (0, 32, .inl (upd (S 16) i v))) = mh h m (su S 16 i v) L := mh_ast h m S L (j := 12) (by decide) (by decide) (by decide) i v
theorem mp17 (h : aH) (m : Nat) (S : mS) (L : Nat → Int64) (v : Int32) : hu (mh h m S L) m (.inr (21, (mfs m S).set 17 (.int v))) = mh h m (su S 17 0 v) L := mh_put h m S L (k := 17) (by decide) rfl v
theorem ma18 (h : aH) (m : Nat) (S : mS) (L : Nat → Int64) : (mh h m S L).2 (m + 13) = some (.inl (0, 32, .inl (S 18))) := mh_at h m S L 13 (by decide)
theorem mp18 (h : aH) (m : Nat) (S : mS) (L : Nat → Int64) (i : Nat) (v : Int32) : hu (mh h m S L) (m + 13) (.inl (0, 32, .inl (upd (S 18) i v))) = mh h m (su S 18 i v) L := mh_ast h m S L (j := 13) (by decide) (by decide) (by decide) i v
theorem ma19 (h : aH) (m : Nat) (S : mS) (L : Nat → Int64) : (mh h m S L).2 (m + 14) = some (.inl (0, 32, .inl (S 19))) := mh_at h m S L 14 (by decide)
theorem mp19 (h : aH) (m : Nat) (S : mS) (L : Nat → Int64) (i : Nat) (v : Int32) : hu (mh h m S L) (m + 14) (.inl (0, 32, .inl (upd (S 19) i v))) = mh h m (su S 19 i v) L := mh_ast h m S L (j := 14) (by decide) (by decide) (by decide) i v
theorem ma20 (h : aH) (m : Nat) (S : mS) (L : Nat → Int64) : (mh h m S L).2 (m + 15) = some (.inl (0, 32, .inl (S 20))) := mh_at h m S L 15 (by decide)
theorem mp20 (h : aH) (m : Nat) (S : mS) (L : Nat → Int64) (i : Nat) (v : Int32) : hu (mh h m S L) (m + 15) (.inl (0, 32, .inl (upd (S 20) i v))) = mh h m (su S 20 i v) L := mh_ast h m S L (j := 15) (by decide) (by decide) (by decide) i v
theorem ma21 (h : aH) (m : Nat) (S : mS) (L : Nat → Int64) : (mh h m S L).2 (m + 16) = some (.inl (1, 32, .inl (S 21))) := mh_at h m S L 16 (by decide)
theorem mp21 (h : aH) (m : Nat) (S : mS) (L : Nat → Int64) (i : Nat) (v : Int32) : hu (mh h m S L) (m + 16) (.inl (1, 32, .inl (upd (S 21) i v))) = mh h m (su S 21 i v) L := mh_ast h m S L (j := 16) (by decide) (by decide) (by decide) i v
theorem ma22 (h : aH) (m : Nat) (S : mS) (L : Nat → Int64) : (mh h m S L).2 (m + 17) = some (.inl (1, 2, .inl (S 22))) := mh_at h m S L 17 (by decide)
theorem mp22 (h : aH) (m : Nat) (S : mS) (L : Nat → Int64) (i : Nat) (v : Int32) : hu (mh h m S L) (m + 17) (.inl (1, 2, .inl (upd (S 22) i v))) = mh h m (su S 22 i v) L := mh_ast h m S L (j := 17) (by decide) (by decide) (by decide) i v
theorem ma23 (h : aH) (m : Nat) (S : mS) (L : Nat → Int64) : (mh h m S L).2 (m + 18) = some (.inl (1, 16, .inl (S 23))) := mh_at h m S L 18 (by decide)
theorem mp23 (h : aH) (m : Nat) (S : mS) (L : Nat → Int64) (i : Nat) (v : Int32) : hu (mh h m S L) (m + 18) (.inl (1, 16, .inl (upd (S 23) i v))) = mh h m (su S 23 i v) L := mh_ast h m S L (j := 18) (by decide) (by decide) (by decide) i v
theorem ma24 (h : aH) (m : Nat) (S : mS) (L : Nat → Int64) : (mh h m S L).2 (m + 19) = some (.inl (1, 16, .inl (S 24))) := mh_at h m S L 19 (by decide)
theorem mp24 (h : aH) (m : Nat) (S : mS) (L : Nat → Int64) (i : Nat) (v : Int32) : hu (mh h m S L) (m + 19) (.inl (1, 16, .inl (upd (S 24) i v))) = mh h m (su S 24 i v) L := mh_ast h m S L (j := 19) (by decide) (by decide) (by decide) i v
theorem ma25 (h : aH) (m : Nat) (S : mS) (L : Nat → Int64) : (mh h m S L).2 (m + 20) = some (.inl (1, 16, .inl (S 25))) := mh_at h m S L 20 (by decide)
theorem mp25 (h : aH) (m : Nat) (S : mS) (L : Nat → Int64) (i : Nat) (v : Int32) : hu (mh h m S L) (m + 20) (.inl (1, 16, .inl (upd (S 25) i v))) = mh h m (su S 25 i v) L := mh_ast h m S L (j := 20) (by decide) (by decide) (by decide) i v
theorem ma26 (h : aH) (m : Nat) (S : mS) (L : Nat → Int64) : (mh h m S L).2 (m + 21) = some (.inl (0, 4, .inl (S 26))) := mh_at h m S L 21 (by decide)
theorem mp26 (h : aH) (m : Nat) (S : mS) (L : Nat → Int64) (i : Nat) (v : Int32) : hu (mh h m S L) (m + 21) (.inl (0, 4, .inl (upd (S 26) i v))) = mh h m (su S 26 i v) L := mh_ast h m S L (j := 21) (by decide) (by decide) (by decide) i v
theorem ma27 (h : aH) (m : Nat) (S : mS) (L : Nat → Int64) : (mh h m S L).2 (m + 22) = some (.inl (0, 4, .inl (S 27))) := mh_at h m S L 22 (by decide)
theorem mp27 (h : aH) (m : Nat) (S : mS) (L : Nat → Int64) (i : Nat) (v : Int32) : hu (mh h m S L) (m + 22) (.inl (0, 4, .inl (upd (S 27) i v))) = mh h m (su S 27 i v) L := mh_ast h m S L (j := 22) (by decide) (by decide) (by decide) i v
theorem ma28 (h : aH) (m : Nat) (S : mS) (L : Nat → Int64) : (mh h m S L).2 (m + 23) = some (.inl (0, 6, .inl (S 28))) := mh_at h m S L 23 (by decide)
theorem mp28 (h : aH) (m : Nat) (S : mS) (L : Nat → Int64) (i : Nat) (v : Int32) : hu (mh h m S L) (m + 23) (.inl (0, 6, .inl (upd (S 28) i v))) = mh h m (su S 28 i v) L := mh_ast h m S L (j := 23) (by decide) (by decide) (by decide) i v
theorem ma29 (h : aH) (m : Nat) (S : mS) (L : Nat → Int64) : (mh h m S L).2 (m + 24) = some (.inl (0, 2, .inl (S 29))) := mh_at h m S L 24 (by decide)
theorem mp29 (h : aH) (m : Nat) (S : mS) (L : Nat → Int64) (i : Nat) (v : Int32) : hu (mh h m S L) (m + 24) (.inl (0, 2, .inl (upd (S 29) i v))) = mh h m (su S 29 i v) L := mh_ast h m S L (j := 24) (by decide) (by decide) (by decide) i v
theorem ma30 (h : aH) (m : Nat) (S : mS) (L : Nat → Int64) : (mh h m S L).2 (m + 25) = some (.inl (0, 13122, .inl (S 30))) := mh_at h m S L 25 (by decide)
theorem mp30 (h : aH) (m : Nat) (S : mS) (L : Nat → Int64) (i : Nat) (v : Int32) : hu (mh h m S L) (m + 25) (.inl (0, 13122, .inl (upd (S 30) i v))) = mh h m (su S 30 i v) L := mh_ast h m S L (j := 25) (by decide) (by decide) (by decide) i v
theorem ma31 (h : aH) (m : Nat) (S : mS) (L : Nat → Int64) : (mh h m S L).2 (m + 26) = some (.inl (0, 4, .inl (S 31))) := mh_at h m S L 26 (by decide)
theorem mp31 (h : aH) (m : Nat) (S : mS) (L : Nat → Int64) (i : Nat) (v : Int32) : hu (mh h m S L) (m + 26) (.inl (0, 4, .inl (upd (S 31) i v))) = mh h m (su S 31 i v) L := mh_ast h m S L (j := 26) (by decide) (by decide) (by decide) i v
theorem mp32 (h : aH) (m : Nat) (S : mS) (L : Nat → Int64) (v : Int32) : hu (mh h m S L) m (.inr (21, (mfs m S).set 32 (.int v))) = mh h m (su S 32 0 v) L := mh_put h m S L (k := 32) (by decide) rfl v
theorem ma33 (h : aH) (m : Nat) (S : mS) (L : Nat → Int64) : (mh h m S L).2 (m + 27) = some (.inl (0, 16, .inl (S 33))) := mh_at h m S L 27 (by decide)
theorem mp33 (h : aH) (m : Nat) (S : mS) (L : Nat → Int64) (i : Nat) (v : Int32) : hu (mh h m S L) (m + 27) (.inl (0, 16, .inl (upd (S 33) i v))) = mh h m (su S 33 i v) L := mh_ast h m S L (j := 27) (by decide) (by decide) (by decide) i v
theorem ma34 (h : aH) (m : Nat) (S : mS) (L : Nat → Int64) : (mh h m S L).2 (m + 28) = some (.inl (0, 65616, .inl (S 34))) := mh_at h m S L 28 (by decide)
theorem mp34 (h : aH) (m : Nat) (S : mS) (L : Nat → Int64) (i : Nat) (v : Int32) : hu (mh h m S L) (m + 28) (.inl (0, 65616, .inl (upd (S 34) i v))) = mh h m (su S 34 i v) L := mh_ast h m S L (j := 28) (by decide) (by decide) (by decide) i v
theorem ma35 (h : aH) (m : Nat) (S : mS) (L : Nat → Int64) : (mh h m S L).2 (m + 29) = some (.inl (0, 4101, .inl (S 35))) := mh_at h m S L 29 (by decide)
theorem mp35 (h : aH) (m : Nat) (S : mS) (L : Nat → Int64) (i : Nat) (v : Int32) : hu (mh h m S L) (m + 29) (.inl (0, 4101, .inl (upd (S 35) i v))) = mh h m (su S 35 i v) L := mh_ast h m S L (j := 29) (by decide) (by decide) (by decide) i v
theorem ma36 (h : aH) (m : Nat) (S : mS) (L : Nat → Int64) : (mh h m S L).2 (m + 30) = some (.inl (0, 4101, .inl (S 36))) := mh_at h m S L 30 (by decide)
theorem mp36 (h : aH) (m : Nat) (S : mS) (L : Nat → Int64) (i : Nat) (v : Int32) : hu (mh h m S L) (m + 30) (.inl (0, 4101, .inl (upd (S 36) i v))) = mh h m (su S 36 i v) L := mh_ast h m S L (j := 30) (by decide) (by decide) (by decide) i v
theorem ma37 (h : aH) (m : Nat) (S : mS) (L : Nat → Int64) : (mh h m S L).2 (m + 31) = some (.inl (0, 4101, .inl (S 37))) := mh_at h m S L 31 (by decide)
theorem mp37 (h : aH) (m : Nat) (S : mS) (L : Nat → Int64) (i : Nat) (v : Int32) : hu (mh h m S L) (m + 31) (.inl (0, 4101, .inl (upd (S 37) i v))) = mh h m (su S 37 i v) L := mh_ast h m S L (j := 31) (by decide) (by decide) (by decide) i v
theorem ma38 (h : aH) (m : Nat) (S : mS) (L : Nat → Int64) : (mh h m S L).2 (m + 32) = some (.inl (0, 4101, .inl (S 38))) := mh_at h m S L 32 (by decide)
theorem mp38 (h : aH) (m : Nat) (S : mS) (L : Nat → Int64) (i : Nat) (v : Int32) : hu (mh h m S L) (m + 32) (.inl (0, 4101, .inl (upd (S 38) i v))) = mh h m (su S 38 i v) L := mh_ast h m S L (j := 32) (by decide) (by decide) (by decide) i v
theorem ma39 (h : aH) (m : Nat) (S : mS) (L : Nat → Int64) : (mh h m S L).2 (m + 33) = some (.inl (0, 16384, .inl (S 39))) := mh_at h m S L 33 (by decide)
theorem mp39 (h : aH) (m : Nat) (S : mS) (L : Nat → Int64) (i : Nat) (v : Int32) : hu (mh h m S L) (m + 33) (.inl (0, 16384, .inl (upd (S 39) i v))) = mh h m (su S 39 i v) L := mh_ast h m S L (j := 33) (by decide) (by decide) (by decide) i v
theorem ma40 (h : aH) (m : Nat) (S : mS) (L : Nat → Int64) : (mh h m S L).2 (m + 34) = some (.inl (2, 4101, .inr (.inl L))) := mh_at h m S L 34 (by decide)
theorem mp40 (h : aH) (m : Nat) (S : mS) (L : Nat → Int64) (i : Nat) (v : Int64) : hu (mh h m S L) (m + 34) (.inl (2, 4101, .inr (.inl (vp_updL L i v)))) = mh h m S (vp_updL L i v) := mh_lst h m S L i v
theorem ma41 (h : aH) (m : Nat) (S : mS) (L : Nat → Int64) : (mh h m S L).2 (m + 35) = some (.inl (1, 4101, .inl (S 41))) := mh_at h m S L 35 (by decide)
theorem mp41 (h : aH) (m : Nat) (S : mS) (L : Nat → Int64) (i : Nat) (v : Int32) : hu (mh h m S L) (m + 35) (.inl (1, 4101, .inl (upd (S 41) i v))) = mh h m (su S 41 i v) L := mh_ast h m S L (j := 35) (by decide) (by decide) (by decide) i v
theorem mp42 (h : aH) (m : Nat) (S : mS) (L : Nat → Int64) (v : Int32) : hu (mh h m S L) m (.inr (21, (mfs m S).set 42 (.int v))) = mh h m (su S 42 0 v) L := mh_put h m S L (k := 42) (by decide) rfl v
theorem ma43 (h : aH) (m : Nat) (S : mS) (L : Nat → Int64) : (mh h m S L).2 (m + 36) = some (.inl (0, 16, .inl (S 43))) := mh_at h m S L 36 (by decide)
theorem mp43 (h : aH) (m : Nat) (S : mS) (L : Nat → Int64) (i : Nat) (v : Int32) : hu (mh h m S L) (m + 36) (.inl (0, 16, .inl (upd (S 43) i v))) = mh h m (su S 43 i v) L := mh_ast h m S L (j := 36) (by decide) (by decide) (by decide) i v
theorem ma44 (h : aH) (m : Nat) (S : mS) (L : Nat → Int64) : (mh h m S L).2 (m + 37) = some (.inl (0, 4101, .inl (S 44))) := mh_at h m S L 37 (by decide)
theorem mp44 (h : aH) (m : Nat) (S : mS) (L : Nat → Int64) (i : Nat) (v : Int32) : hu (mh h m S L) (m + 37) (.inl (0, 4101, .inl (upd (S 44) i v))) = mh h m (su S 44 i v) L := mh_ast h m S L (j := 37) (by decide) (by decide) (by decide) i v
theorem ma45 (h : aH) (m : Nat) (S : mS) (L : Nat → Int64) : (mh h m S L).2 (m + 38) = some (.inl (0, 4101, .inl (S 45))) := mh_at h m S L 38 (by decide)
theorem mp45 (h : aH) (m : Nat) (S : mS) (L : Nat → Int64) (i : Nat) (v : Int32) : hu (mh h m S L) (m + 38) (.inl (0, 4101, .inl (upd (S 45) i v))) = mh h m (su S 45 i v) L := mh_ast h m S L (j := 38) (by decide) (by decide) (by decide) i v
theorem mp46 (h : aH) (m : Nat) (S : mS) (L : Nat → Int64) (v : Int32) : hu (mh h m S L) m (.inr (21, (mfs m S).set 46 (.int v))) = mh h m (su S 46 0 v) L := mh_put h m S L (k := 46) (by decide) rfl v
theorem mp47 (h : aH) (m : Nat) (S : mS) (L : Nat → Int64) (v : Int32) : hu (mh h m S L) m (.inr (21, (mfs m S).set 47 (.int v))) = mh h m (su S 47 0 v) L := mh_put h m S L (k := 47) (by decide) rfl v
theorem mp48 (h : aH) (m : Nat) (S : mS) (L : Nat → Int64) (v : Int32) : hu (mh h m S L) m (.inr (21, (mfs m S).set 48 (.int v))) = mh h m (su S 48 0 v) L := mh_put h m S L (k := 48) (by decide) rfl v
theorem mp49 (h : aH) (m : Nat) (S : mS) (L : Nat → Int64) (v : Int32) : hu (mh h m S L) m (.inr (21, (mfs m S).set 49 (.int v))) = mh h m (su S 49 0 v) L := mh_put h m S L (k := 49) (by decide) rfl v
theorem mp50 (h : aH) (m : Nat) (S : mS) (L : Nat → Int64) (v : Int32) : hu (mh h m S L) m (.inr (21, (mfs m S).set 50 (.int v))) = mh h m (su S 50 0 v) L := mh_put h m S L (k := 50) (by decide) rfl v
theorem mp51 (h : aH) (m : Nat) (S : mS) (L : Nat → Int64) (v : Int32) : hu (mh h m S L) m (.inr (21, (mfs m S).set 51 (.int v))) = mh h m (su S 51 0 v) L := mh_put h m S L (k := 51) (by decide) rfl v
theorem mp52 (h : aH) (m : Nat) (S : mS) (L : Nat → Int64) (v : Int32) : hu (mh h m S L) m (.inr (21, (mfs m S).set 52 (.int v))) = mh h m (su S 52 0 v) L := mh_put h m S L (k := 52) (by decide) rfl v
theorem mp53 (h : aH) (m : Nat) (S : mS) (L : Nat → Int64) (v : Int32) : hu (mh h m S L) m (.inr (21, (mfs m S).set 53 (.int v))) = mh h m (su S 53 0 v) L := mh_put h m S L (k := 53) (by decide) rfl v
theorem mp54 (h : aH) (m : Nat) (S : mS) (L : Nat → Int64) (v : Int32) : hu (mh h m S L) m (.inr (21, (mfs m S).set 54 (.int v))) = mh h m (su S 54 0 v) L := mh_put h m S L (k := 54) (by decide) rfl v
theorem mp55 (h : aH) (m : Nat) (S : mS) (L : Nat → Int64) (v : Int32) : hu (mh h m S L) m (.inr (21, (mfs m S).set 55 (.int v))) = mh h m (su S 55 0 v) L := mh_put h m S L (k := 55) (by decide) rfl v
theorem mp56 (h : aH) (m : Nat) (S : mS) (L : Nat → Int64) (v : Int32) : hu (mh h m S L) m (.inr (21, (mfs m S).set 56 (.int v))) = mh h m (su S 56 0 v) L := mh_put h m S L (k := 56) (by decide) rfl v
theorem ma57 (h : aH) (m : Nat) (S : mS) (L : Nat → Int64) : (mh h m S L).2 (m + 39) = some (.inl (0, 1001, .inl (S 57))) := mh_at h m S L 39 (by decide)
theorem mp57 (h : aH) (m : Nat) (S : mS) (L : Nat → Int64) (i : Nat) (v : Int32) : hu (mh h m S L) (m + 39) (.inl (0, 1001, .inl (upd (S 57) i v))) = mh h m (su S 57 i v) L := mh_ast h m S L (j := 39) (by decide) (by decide) (by decide) i v
theorem ma58 (h : aH) (m : Nat) (S : mS) (L : Nat → Int64) : (mh h m S L).2 (m + 40) = some (.inl (0, 1001, .inl (S 58))) := mh_at h m S L 40 (by decide)
theorem mp58 (h : aH) (m : Nat) (S : mS) (L : Nat → Int64) (i : Nat) (v : Int32) : hu (mh h m S L) (m + 40) (.inl (0, 1001, .inl (upd (S 58) i v))) = mh h m (su S 58 i v) L := mh_ast h m S L (j := 40) (by decide) (by decide) (by decide) i v
theorem ma59 (h : aH) (m : Nat) (S : mS) (L : Nat → Int64) : (mh h m S L).2 (m + 41) = some (.inl (0, 1001, .inl (S 59))) := mh_at h m S L 41 (by decide)
theorem mp59 (h : aH) (m : Nat) (S : mS) (L : Nat → Int64) (i : Nat) (v : Int32) : hu (mh h m S L) (m + 41) (.inl (0, 1001, .inl (upd (S 59) i v))) = mh h m (su S 59 i v) L := mh_ast h m S L (j := 41) (by decide) (by decide) (by decide) i v
theorem ma60 (h : aH) (m : Nat) (S : mS) (L : Nat → Int64) : (mh h m S L).2 (m + 42) = some (.inl (0, 8202, .inl (S 60))) := mh_at h m S L 42 (by decide)
theorem mp60 (h : aH) (m : Nat) (S : mS) (L : Nat → Int64) (i : Nat) (v : Int32) : hu (mh h m S L) (m + 42) (.inl (0, 8202, .inl (upd (S 60) i v))) = mh h m (su S 60 i v) L := mh_ast h m S L (j := 42) (by decide) (by decide) (by decide) i v
theorem ma61 (h : aH) (m : Nat) (S : mS) (L : Nat → Int64) : (mh h m S L).2 (m + 43) = some (.inl (0, 720, .inl (S 61))) := mh_at h m S L 43 (by decide)
theorem mp61 (h : aH) (m : Nat) (S : mS) (L : Nat → Int64) (i : Nat) (v : Int32) : hu (mh h m S L) (m + 43) (.inl (0, 720, .inl (upd (S 61) i v))) = mh h m (su S 61 i v) L := mh_ast h m S L (j := 43) (by decide) (by decide) (by decide) i v
theorem ma62 (h : aH) (m : Nat) (S : mS) (L : Nat → Int64) : (mh h m S L).2 (m + 44) = some (.inl (0, 2880, .inl (S 62))) := mh_at h m S L 44 (by decide)
theorem mp62 (h : aH) (m : Nat) (S : mS) (L : Nat → Int64) (i : Nat) (v : Int32) : hu (mh h m S L) (m + 44) (.inl (0, 2880, .inl (upd (S 62) i v))) = mh h m (su S 62 i v) L := mh_ast h m S L (j := 44) (by decide) (by decide) (by decide) i v
theorem ma63 (h : aH) (m : Nat) (S : mS) (L : Nat → Int64) : (mh h m S L).2 (m + 45) = some (.inl (0, 2880, .inl (S 63))) := mh_at h m S L 45 (by decide)
theorem mp63 (h : aH) (m : Nat) (S : mS) (L : Nat → Int64) (i : Nat) (v : Int32) : hu (mh h m S L) (m + 45) (.inl (0, 2880, .inl (upd (S 63) i v))) = mh h m (su S 63 i v) L := mh_ast h m S L (j := 45) (by decide) (by decide) (by decide) i v
theorem ma64 (h : aH) (m : Nat) (S : mS) (L : Nat → Int64) : (mh h m S L).2 (m + 46) = some (.inl (0, 720, .inl (S 64))) := mh_at h m S L 46 (by decide)
theorem mp64 (h : aH) (m : Nat) (S : mS) (L : Nat → Int64) (i : Nat) (v : Int32) : hu (mh h m S L) (m + 46) (.inl (0, 720, .inl (upd (S 64) i v))) = mh h m (su S 64 i v) L := mh_ast h m S L (j := 46) (by decide) (by decide) (by decide) i v
theorem mp65 (h : aH) (m : Nat) (S : mS) (L : Nat → Int64) (v : Int32) : hu (mh h m S L) m (.inr (21, (mfs m S).set 65 (.int v))) = mh h m (su S 65 0 v) L := mh_put h m S L (k := 65) (by decide) rfl v
theorem ma66 (h : aH) (m : Nat) (S : mS) (L : Nat → Int64) : (mh h m S L).2 (m + 47) = some (.inl (0, 720, .inl (S 66))) := mh_at h m S L 47 (by decide)
theorem mp66 (h : aH) (m : Nat) (S : mS) (L : Nat → Int64) (i : Nat) (v : Int32) : hu (mh h m S L) (m + 47) (.inl (0, 720, .inl (upd (S 66) i v))) = mh h m (su S 66 i v) L := mh_ast h m S L (j := 47) (by decide) (by decide) (by decide) i v
