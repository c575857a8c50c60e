/-! THE TWIN'S MEMORY: M 0 its fields by number, M k the array that its field k holds; A 0 the object, A k that array -/
set_option maxRecDepth 100000
abbrev TW : Type := Nat → Nat → Nat
def tset (M : TW) (k i x : Nat) : TW := fun b => if b = k then nup (M k) i x else M b
theorem tset_s (M : TW) (k i x : Nat) : tset M k i x k = nup (M k) i x := if_pos rfl
theorem tset_n (M : TW) {k b : Nat} (i x : Nat) (h : b ≠ k) : tset M k i x b = M b := if_neg h
theorem tset_ss (M : TW) (k i x : Nat) : tset M k i x k i = x := by rw [tset_s, nup_s]
theorem tset_sn (M : TW) (k : Nat) {i j : Nat} (x : Nat) (h : j ≠ i) : tset M k i x k j = M k j := by rw [tset_s, nup_n _ _ h]
def twK : List Nat := [0, 1, 2, 4, 5, 8, 9, 11, 12, 14]
/-- the twin's cells are apart -/
def twA (A : Nat → Nat) : Prop := ∀ i ∈ twK, ∀ j ∈ twK, A i = A j → i = j
def twF (A : Nat → Nat) (M : TW) : List Value := [.int (nI (M 0 0)), .ref (A 1), .ref (A 2), .int (nI (M 0 3)), .ref (A 4), .ref (A 5), .int (nI (M 0 6)), .int (nI (M 0 7)), .ref (A 8), .ref (A 9), .int (nI (M 0 10)), .ref (A 11), .ref (A 12), .int (nI (M 0 13)), .ref (A 14), .int (nI (M 0 15)), .int (nI (M 0 16)), .int (nI (M 0 17)), .int (nI (M 0 18)), .int (nI (M 0 19)), .int (nI (M 0 20)), .int (nI (M 0 21))]
def twO (E : GE) (A : Nat → Nat) (M : TW) (h : AH) : AH := fun a => if a = A 0 then some (5, gO 2 (twF A M)) else if a = A 1 then some (5, gAIn E 534 (M 1)) else if a = A 2 then some (5, gAIn E 534 (M 2)) else if a = A 4 then some (5, gAIn E 8 (M 4)) else if a = A 5 then some (5, gAIn E 24 (M 5)) else if a = A 8 then some (5, gAIn E 30 (M 8)) else if a = A 9 then some (5, gAIn E 30 (M 9)) else if a = A 11 then some (5, gAIn E 3 (M 11)) else if a = A 12 then some (5, gACn E 100 (M 12)) else if a = A 14 then some (5, gACn E 40 (M 14)) else h a
section
variable {E : GE} {A : Nat → Nat} {M : TW} {h : AH}
theorem tw_0 : twO E A M h (A 0) = some (5, gO 2 (twF A M)) := if_pos rfl
theorem tw_1 (hA : twA A) : twO E A M h (A 1) = some (5, gAIn E 534 (M 1)) := by
  unfold twO
  rw [if_neg (fun z => absurd (hA 1 (by decide) 0 (by decide) z) (by decide))]; rw [if_pos rfl]
theorem tw_2 (hA : twA A) : twO E A M h (A 2) = some (5, gAIn E 534 (M 2)) := by
  unfold twO
  rw [if_neg (fun z => absurd (hA 2 (by decide) 0 (by decide) z) (by decide))]; rw [if_neg (fun z => absurd (hA 2 (by decide) 1 (by decide) z) (by decide))]; rw [if_pos rfl]
theorem tw_4 (hA : twA A) : twO E A M h (A 4) = some (5, gAIn E 8 (M 4)) := by
  unfold twO
  rw [if_neg (fun z => absurd (hA 4 (by decide) 0 (by decide) z) (by decide))]; rw [if_neg (fun z => absurd (hA 4 (by decide) 1 (by decide) z) (by decide))]; rw [if_neg (fun z => absurd (hA 4 (by decide) 2 (by decide) z) (by decide))]; rw [if_pos rfl]
theorem tw_5 (hA : twA A) : twO E A M h (A 5) = some (5, gAIn E 24 (M 5)) := by
  unfold twO
  rw [if_neg (fun z => absurd (hA 5 (by decide) 0 (by decide) z) (by decide))]; rw [if_neg (fun z => absurd (hA 5 (by decide) 1 (by decide) z) (by decide))]; rw [if_neg (fun z => absurd (hA 5 (by decide) 2 (by decide) z) (by decide))]; rw [if_neg (fun z => absurd (hA 5 (by decide) 4 (by decide) z) (by decide))]; rw [if_pos rfl]
theorem tw_8 (hA : twA A) : twO E A M h (A 8) = some (5, gAIn E 30 (M 8)) := by
  unfold twO
  rw [if_neg (fun z => absurd (hA 8 (by decide) 0 (by decide) z) (by decide))]; rw [if_neg (fun z => absurd (hA 8 (by decide) 1 (by decide) z) (by decide))]; rw [if_neg (fun z => absurd (hA 8 (by decide) 2 (by decide) z) (by decide))]; rw [if_neg (fun z => absurd (hA 8 (by decide) 4 (by decide) z) (by decide))]; rw [if_neg (fun z => absurd (hA 8 (by decide) 5 (by decide) z) (by decide))]; rw [if_pos rfl]
theorem tw_9 (hA : twA A) : twO E A M h (A 9) = some (5, gAIn E 30 (M 9)) := by
  unfold twO
  rw [if_neg (fun z => absurd (hA 9 (by decide) 0 (by decide) z) (by decide))]; rw [if_neg (fun z => absurd (hA 9 (by decide) 1 (by decide) z) (by decide))]; rw [if_neg (fun z => absurd (hA 9 (by decide) 2 (by decide) z) (by decide))]; rw [if_neg (fun z => absurd (hA 9 (by decide) 4 (by decide) z) (by decide))]; rw [if_neg (fun z => absurd (hA 9 (by decide) 5 (by decide) z) (by decide))]; rw [if_neg (fun z => absurd (hA 9 (by decide) 8 (by decide) z) (by decide))]; rw [if_pos rfl]
theorem tw_11 (hA : twA A) : twO E A M h (A 11) = some (5, gAIn E 3 (M 11)) := by
  unfold twO
  rw [if_neg (fun z => absurd (hA 11 (by decide) 0 (by decide) z) (by decide))]; rw [if_neg (fun z => absurd (hA 11 (by decide) 1 (by decide) z) (by decide))]; rw [if_neg (fun z => absurd (hA 11 (by decide) 2 (by decide) z) (by decide))]; rw [if_neg (fun z => absurd (hA 11 (by decide) 4 (by decide) z) (by decide))]; rw [if_neg (fun z => absurd (hA 11 (by decide) 5 (by decide) z) (by decide))]; rw [if_neg (fun z => absurd (hA 11 (by decide) 8 (by decide) z) (by decide))]; rw [if_neg (fun z => absurd (hA 11 (by decide) 9 (by decide) z) (by decide))]; rw [if_pos rfl]
theorem tw_12 (hA : twA A) : twO E A M h (A 12) = some (5, gACn E 100 (M 12)) := by
  unfold twO
  rw [if_neg (fun z => absurd (hA 12 (by decide) 0 (by decide) z) (by decide))]; rw [if_neg (fun z => absurd (hA 12 (by decide) 1 (by decide) z) (by decide))]; rw [if_neg (fun z => absurd (hA 12 (by decide) 2 (by decide) z) (by decide))]; rw [if_neg (fun z => absurd (hA 12 (by decide) 4 (by decide) z) (by decide))]; rw [if_neg (fun z => absurd (hA 12 (by decide) 5 (by decide) z) (by decide))]; rw [if_neg (fun z => absurd (hA 12 (by decide) 8 (by decide) z) (by decide))]; rw [if_neg (fun z => absurd (hA 12 (by decide) 9 (by decide) z) (by decide))]; rw [if_neg (fun z => absurd (hA 12 (by decide) 11 (by decide) z) (by decide))]; rw [if_pos rfl]
theorem tw_14 (hA : twA A) : twO E A M h (A 14) = some (5, gACn E 40 (M 14)) := by
  unfold twO
  rw [if_neg (fun z => absurd (hA 14 (by decide) 0 (by decide) z) (by decide))]; rw [if_neg (fun z => absurd (hA 14 (by decide) 1 (by decide) z) (by decide))]; rw [if_neg (fun z => absurd (hA 14 (by decide) 2 (by decide) z) (by decide))]; rw [if_neg (fun z => absurd (hA 14 (by decide) 4 (by decide) z) (by decide))]; rw [if_neg (fun z => absurd (hA 14 (by decide) 5 (by decide) z) (by decide))]; rw [if_neg (fun z => absurd (hA 14 (by decide) 8 (by decide) z) (by decide))]; rw [if_neg (fun z => absurd (hA 14 (by decide) 9 (by decide) z) (by decide))]; rw [if_neg (fun z => absurd (hA 14 (by decide) 11 (by decide) z) (by decide))]; rw [if_neg (fun z => absurd (hA 14 (by decide) 12 (by decide) z) (by decide))]; rw [if_pos rfl]
theorem tw_up0_0 (hA : twA A) (x : Nat) : g_up (twO E A M h) (A 0) (5, gO 2 ((twF A M).set 0 (.int (nI x)))) = twO E A (tset M 0 0 x) h := by
  funext b
  unfold g_up twO
  by_cases hb : b = A 0
  · rw [if_pos hb, if_pos hb]
    rfl
  · rw [if_neg hb, if_neg hb, if_neg hb]
    rfl
theorem tw_up0_3 (hA : twA A) (x : Nat) : g_up (twO E A M h) (A 0) (5, gO 2 ((twF A M).set 3 (.int (nI x)))) = twO E A (tset M 0 3 x) h := by
  funext b
  unfold g_up twO
  by_cases hb : b = A 0
  · rw [if_pos hb, if_pos hb]
    rfl
  · rw [if_neg hb, if_neg hb, if_neg hb]
    rfl
theorem tw_up0_6 (hA : twA A) (x : Nat) : g_up (twO E A M h) (A 0) (5, gO 2 ((twF A M).set 6 (.int (nI x)))) = twO E A (tset M 0 6 x) h := by
  funext b
  unfold g_up twO
  by_cases hb : b = A 0
  · rw [if_pos hb, if_pos hb]
    rfl
  · rw [if_neg hb, if_neg hb, if_neg hb]
    rfl
theorem tw_up0_7 (hA : twA A) (x : Nat) : g_up (twO E A M h) (A 0) (5, gO 2 ((twF A M).set 7 (.int (nI x)))) = twO E A (tset M 0 7 x) h := by
  funext b
  unfold g_up twO
  by_cases hb : b = A 0
  · rw [if_pos hb, if_pos hb]
    rfl
  · rw [if_neg hb, if_neg hb, if_neg hb]
    rfl
theorem tw_up0_10 (hA : twA A) (x : Nat) : g_up (twO E A M h) (A 0) (5, gO 2 ((twF A M).set 10 (.int (nI x)))) = twO E A (tset M 0 10 x) h := by
  funext b
  unfold g_up twO
  by_cases hb : b = A 0
  · rw [if_pos hb, if_pos hb]
    rfl
  · rw [if_neg hb, if_neg hb, if_neg hb]
    rfl
theorem tw_up0_13 (hA : twA A) (x : Nat) : g_up (twO E A M h) (A 0) (5, gO 2 ((twF A M).set 13 (.int (nI x)))) = twO E A (tset M 0 13 x) h := by
  funext b
  unfold g_up twO
  by_cases hb : b = A 0
  · rw [if_pos hb, if_pos hb]
    rfl
  · rw [if_neg hb, if_neg hb, if_neg hb]
    rfl
theorem tw_up0_15 (hA : twA A) (x : Nat) : g_up (twO E A M h) (A 0) (5, gO 2 ((twF A M).set 15 (.int (nI x)))) = twO E A (tset M 0 15 x) h := by
  funext b
  unfold g_up twO
  by_cases hb : b = A 0
  · rw [if_pos hb, if_pos hb]
    rfl
  · rw [if_neg hb, if_neg hb, if_neg hb]
    rfl
theorem tw_up0_16 (hA : twA A) (x : Nat) : g_up (twO E A M h) (A 0) (5, gO 2 ((twF A M).set 16 (.int (nI x)))) = twO E A (tset M 0 16 x) h := by
  funext b
  unfold g_up twO
  by_cases hb : b = A 0
  · rw [if_pos hb, if_pos hb]
    rfl
  · rw [if_neg hb, if_neg hb, if_neg hb]
    rfl
theorem tw_up0_17 (hA : twA A) (x : Nat) : g_up (twO E A M h) (A 0) (5, gO 2 ((twF A M).set 17 (.int (nI x)))) = twO E A (tset M 0 17 x) h := by
  funext b
  unfold g_up twO
  by_cases hb : b = A 0
  · rw [if_pos hb, if_pos hb]
    rfl
  · rw [if_neg hb, if_neg hb, if_neg hb]
    rfl
theorem tw_up0_18 (hA : twA A) (x : Nat) : g_up (twO E A M h) (A 0) (5, gO 2 ((twF A M).set 18 (.int (nI x)))) = twO E A (tset M 0 18 x) h := by
  funext b
  unfold g_up twO
  by_cases hb : b = A 0
  · rw [if_pos hb, if_pos hb]
    rfl
  · rw [if_neg hb, if_neg hb, if_neg hb]
    rfl
theorem tw_up0_19 (hA : twA A) (x : Nat) : g_up (twO E A M h) (A 0) (5, gO 2 ((twF A M).set 19 (.int (nI x)))) = twO E A (tset M 0 19 x) h := by
  funext b
  unfold g_up twO
  by_cases hb : b = A 0
  · rw [if_pos hb, if_pos hb]
    rfl
  · rw [if_neg hb, if_neg hb, if_neg hb]
    rfl
theorem tw_up0_20 (hA : twA A) (x : Nat) : g_up (twO E A M h) (A 0) (5, gO 2 ((twF A M).set 20 (.int (nI x)))) = twO E A (tset M 0 20 x) h := by
  funext b
  unfold g_up twO
  by_cases hb : b = A 0
  · rw [if_pos hb, if_pos hb]
    rfl
  · rw [if_neg hb, if_neg hb, if_neg hb]
    rfl
theorem tw_up0_21 (hA : twA A) (x : Nat) : g_up (twO E A M h) (A 0) (5, gO 2 ((twF A M).set 21 (.int (nI x)))) = twO E A (tset M 0 21 x) h := by
  funext b
  unfold g_up twO
  by_cases hb : b = A 0
  · rw [if_pos hb, if_pos hb]
    rfl
  · rw [if_neg hb, if_neg hb, if_neg hb]
    rfl
theorem tw_up1 (hA : twA A) (i x : Nat) : g_up (twO E A M h) (A 1) (5, gAIn E 534 (nup (M 1) i x)) = twO E A (tset M 1 i x) h := by
  funext b
  by_cases hb : b = A 1
  · subst hb
    rw [g_up_self, tw_1 hA, tset_s]
  · rw [g_up_ne _ hb]
    unfold twO
    simp only [if_neg hb]
    rfl
theorem tw_up2 (hA : twA A) (i x : Nat) : g_up (twO E A M h) (A 2) (5, gAIn E 534 (nup (M 2) i x)) = twO E A (tset M 2 i x) h := by
  funext b
  by_cases hb : b = A 2
  · subst hb
    rw [g_up_self, tw_2 hA, tset_s]
  · rw [g_up_ne _ hb]
    unfold twO
    simp only [if_neg hb]
    rfl
theorem tw_up4 (hA : twA A) (i x : Nat) : g_up (twO E A M h) (A 4) (5, gAIn E 8 (nup (M 4) i x)) = twO E A (tset M 4 i x) h := by
  funext b
  by_cases hb : b = A 4
  · subst hb
    rw [g_up_self, tw_4 hA, tset_s]
  · rw [g_up_ne _ hb]
    unfold twO
    simp only [if_neg hb]
    rfl
theorem tw_up5 (hA : twA A) (i x : Nat) : g_up (twO E A M h) (A 5) (5, gAIn E 24 (nup (M 5) i x)) = twO E A (tset M 5 i x) h := by
  funext b
  by_cases hb : b = A 5
  · subst hb
    rw [g_up_self, tw_5 hA, tset_s]
  · rw [g_up_ne _ hb]
    unfold twO
    simp only [if_neg hb]
    rfl
theorem tw_up8 (hA : twA A) (i x : Nat) : g_up (twO E A M h) (A 8) (5, gAIn E 30 (nup (M 8) i x)) = twO E A (tset M 8 i x) h := by
  funext b
  by_cases hb : b = A 8
  · subst hb
    rw [g_up_self, tw_8 hA, tset_s]
  · rw [g_up_ne _ hb]
    unfold twO
    simp only [if_neg hb]
    rfl
theorem tw_up9 (hA : twA A) (i x : Nat) : g_up (twO E A M h) (A 9) (5, gAIn E 30 (nup (M 9) i x)) = twO E A (tset M 9 i x) h := by
  funext b
  by_cases hb : b = A 9
  · subst hb
    rw [g_up_self, tw_9 hA, tset_s]
  · rw [g_up_ne _ hb]
    unfold twO
    simp only [if_neg hb]
    rfl
theorem tw_up11 (hA : twA A) (i x : Nat) : g_up (twO E A M h) (A 11) (5, gAIn E 3 (nup (M 11) i x)) = twO E A (tset M 11 i x) h := by
  funext b
  by_cases hb : b = A 11
  · subst hb
    rw [g_up_self, tw_11 hA, tset_s]
  · rw [g_up_ne _ hb]
    unfold twO
    simp only [if_neg hb]
    rfl
theorem tw_up12 (hA : twA A) (i x : Nat) : g_up (twO E A M h) (A 12) (5, gACn E 100 (nup (M 12) i x)) = twO E A (tset M 12 i x) h := by
  funext b
  by_cases hb : b = A 12
  · subst hb
    rw [g_up_self, tw_12 hA, tset_s]
  · rw [g_up_ne _ hb]
    unfold twO
    simp only [if_neg hb]
    rfl
theorem tw_up14 (hA : twA A) (i x : Nat) : g_up (twO E A M h) (A 14) (5, gACn E 40 (nup (M 14) i x)) = twO E A (tset M 14 i x) h := by
  funext b
  by_cases hb : b = A 14
  · subst hb
    rw [g_up_self, tw_14 hA, tset_s]
  · rw [g_up_ne _ hb]
    unfold twO
    simp only [if_neg hb]
    rfl
end
section
variable {E : GE} {cc : ByteArray} {own : String} {M' : GM} {Po : Option Value → AH → Prop} {Px : String → Nat → AH → Prop} {X : GX} {h : AH} {k n pc index : Nat} {ls : List (Option Value)} {st : List Value} {A : Nat → Nat} {M : TW}
theorem t_get0 (hA : twA A) (hlk : Cond.fieldLink own index "SecretVaultModel" "thrown" "I" ∈ lw_all) (d : decode cc pc = .ok (.getfield index, 3)) (kk : V E cc own M' Po Px X (twO E A M h) k n (pc + 3) ls (.int (nI (M 0 0)) :: st)) : V E cc own M' Po Px X (twO E A M h) k n pc ls (.ref (A 0) :: st) := g_get (k0 := 0) tw_0 in_X3 hlk rfl (by decide) rfl d kk
theorem t_put0 {x : Nat} (hA : twA A) (hlk : Cond.fieldLink own index "SecretVaultModel" "thrown" "I" ∈ lw_all) (d : decode cc pc = .ok (.putfield index, 3)) (kk : V E cc own M' Po Px X (twO E A (tset M 0 0 x) h) k n (pc + 3) ls st) : V E cc own M' Po Px X (twO E A M h) k n pc ls (.int (nI x) :: .ref (A 0) :: st) := by
  refine g_put (k0 := 0) tw_0 in_X3 hlk tyX3_ok nmX3 rfl (by decide) rfl rfl rfl (Nat.le_of_ble_eq_true rfl) d ?_
  rw [tw_up0_0 hA]
  exact kk
theorem t_get1 (hA : twA A) (hlk : Cond.fieldLink own index "SecretVaultModel" "g" "[I" ∈ lw_all) (d : decode cc pc = .ok (.getfield index, 3)) (kk : V E cc own M' Po Px X (twO E A M h) k n (pc + 3) ls (.ref (A 1) :: st)) : V E cc own M' Po Px X (twO E A M h) k n pc ls (.ref (A 0) :: st) := g_get (k0 := 1) tw_0 in_X3 hlk rfl (by decide) rfl d kk
theorem t_ald1 {i : Nat} (hA : twA A) (hi : i < 534) (d : decode cc pc = .ok (.iaload, 1)) (kk : V E cc own M' Po Px X (twO E A M h) k n (pc + 1) ls (.int (nI (M 1 i)) :: st)) : V E cc own M' Po Px X (twO E A M h) k n pc ls (.int (nI i) :: .ref (A 1) :: st) := g_ialdN (tw_1 hA) hi (by decide) d kk
theorem t_ast1 {i x : Nat} (hA : twA A) (hi : i < 534) (d : decode cc pc = .ok (.iastore, 1)) (kk : V E cc own M' Po Px X (twO E A (tset M 1 i x) h) k n (pc + 1) ls st) : V E cc own M' Po Px X (twO E A M h) k n pc ls (.int (nI x) :: .int (nI i) :: .ref (A 1) :: st) := by
  refine g_iastN (tw_1 hA) hi (by decide) d ?_
  rw [tw_up1 hA]
  exact kk
theorem t_get2 (hA : twA A) (hlk : Cond.fieldLink own index "SecretVaultModel" "saved" "[I" ∈ lw_all) (d : decode cc pc = .ok (.getfield index, 3)) (kk : V E cc own M' Po Px X (twO E A M h) k n (pc + 3) ls (.ref (A 2) :: st)) : V E cc own M' Po Px X (twO E A M h) k n pc ls (.ref (A 0) :: st) := g_get (k0 := 2) tw_0 in_X3 hlk rfl (by decide) rfl d kk
theorem t_ald2 {i : Nat} (hA : twA A) (hi : i < 534) (d : decode cc pc = .ok (.iaload, 1)) (kk : V E cc own M' Po Px X (twO E A M h) k n (pc + 1) ls (.int (nI (M 2 i)) :: st)) : V E cc own M' Po Px X (twO E A M h) k n pc ls (.int (nI i) :: .ref (A 2) :: st) := g_ialdN (tw_2 hA) hi (by decide) d kk
theorem t_ast2 {i x : Nat} (hA : twA A) (hi : i < 534) (d : decode cc pc = .ok (.iastore, 1)) (kk : V E cc own M' Po Px X (twO E A (tset M 2 i x) h) k n (pc + 1) ls st) : V E cc own M' Po Px X (twO E A M h) k n pc ls (.int (nI x) :: .int (nI i) :: .ref (A 2) :: st) := by
  refine g_iastN (tw_2 hA) hi (by decide) d ?_
  rw [tw_up2 hA]
  exact kk
theorem t_get3 (hA : twA A) (hlk : Cond.fieldLink own index "SecretVaultModel" "hasSaved" "Z" ∈ lw_all) (d : decode cc pc = .ok (.getfield index, 3)) (kk : V E cc own M' Po Px X (twO E A M h) k n (pc + 3) ls (.int (nI (M 0 3)) :: st)) : V E cc own M' Po Px X (twO E A M h) k n pc ls (.ref (A 0) :: st) := g_get (k0 := 3) tw_0 in_X3 hlk rfl (by decide) rfl d kk
theorem t_put3 {x : Nat} (hA : twA A) (hlk : Cond.fieldLink own index "SecretVaultModel" "hasSaved" "Z" ∈ lw_all) (hx : x < 2) (d : decode cc pc = .ok (.putfield index, 3)) (kk : V E cc own M' Po Px X (twO E A (tset M 0 3 x) h) k n (pc + 3) ls st) : V E cc own M' Po Px X (twO E A M h) k n pc ls (.int (nI x) :: .ref (A 0) :: st) := by
  refine g_put (k0 := 3) tw_0 in_X3 hlk tyX3_ok nmX3 rfl (by decide) rfl (by rw [show tyX3 3 = .boolean from rfl]; exact nar_zb hx) (by rcases (show x = 0 ∨ x = 1 by omega) with rfl | rfl <;> rfl) (Nat.le_of_ble_eq_true rfl) d ?_
  rw [tw_up0_3 hA]
  exact kk
theorem t_get4 (hA : twA A) (hlk : Cond.fieldLink own index "SecretVaultModel" "coefficients" "[I" ∈ lw_all) (d : decode cc pc = .ok (.getfield index, 3)) (kk : V E cc own M' Po Px X (twO E A M h) k n (pc + 3) ls (.ref (A 4) :: st)) : V E cc own M' Po Px X (twO E A M h) k n pc ls (.ref (A 0) :: st) := g_get (k0 := 4) tw_0 in_X3 hlk rfl (by decide) rfl d kk
theorem t_ald4 {i : Nat} (hA : twA A) (hi : i < 8) (d : decode cc pc = .ok (.iaload, 1)) (kk : V E cc own M' Po Px X (twO E A M h) k n (pc + 1) ls (.int (nI (M 4 i)) :: st)) : V E cc own M' Po Px X (twO E A M h) k n pc ls (.int (nI i) :: .ref (A 4) :: st) := g_ialdN (tw_4 hA) hi (by decide) d kk
theorem t_ast4 {i x : Nat} (hA : twA A) (hi : i < 8) (d : decode cc pc = .ok (.iastore, 1)) (kk : V E cc own M' Po Px X (twO E A (tset M 4 i x) h) k n (pc + 1) ls st) : V E cc own M' Po Px X (twO E A M h) k n pc ls (.int (nI x) :: .int (nI i) :: .ref (A 4) :: st) := by
  refine g_iastN (tw_4 hA) hi (by decide) d ?_
  rw [tw_up4 hA]
  exact kk
theorem t_get5 (hA : twA A) (hlk : Cond.fieldLink own index "SecretVaultModel" "nodes" "[I" ∈ lw_all) (d : decode cc pc = .ok (.getfield index, 3)) (kk : V E cc own M' Po Px X (twO E A M h) k n (pc + 3) ls (.ref (A 5) :: st)) : V E cc own M' Po Px X (twO E A M h) k n pc ls (.ref (A 0) :: st) := g_get (k0 := 5) tw_0 in_X3 hlk rfl (by decide) rfl d kk
theorem t_ald5 {i : Nat} (hA : twA A) (hi : i < 24) (d : decode cc pc = .ok (.iaload, 1)) (kk : V E cc own M' Po Px X (twO E A M h) k n (pc + 1) ls (.int (nI (M 5 i)) :: st)) : V E cc own M' Po Px X (twO E A M h) k n pc ls (.int (nI i) :: .ref (A 5) :: st) := g_ialdN (tw_5 hA) hi (by decide) d kk
theorem t_ast5 {i x : Nat} (hA : twA A) (hi : i < 24) (d : decode cc pc = .ok (.iastore, 1)) (kk : V E cc own M' Po Px X (twO E A (tset M 5 i x) h) k n (pc + 1) ls st) : V E cc own M' Po Px X (twO E A M h) k n pc ls (.int (nI x) :: .int (nI i) :: .ref (A 5) :: st) := by
  refine g_iastN (tw_5 hA) hi (by decide) d ?_
  rw [tw_up5 hA]
  exact kk
theorem t_get6 (hA : twA A) (hlk : Cond.fieldLink own index "SecretVaultModel" "nodeMany" "I" ∈ lw_all) (d : decode cc pc = .ok (.getfield index, 3)) (kk : V E cc own M' Po Px X (twO E A M h) k n (pc + 3) ls (.int (nI (M 0 6)) :: st)) : V E cc own M' Po Px X (twO E A M h) k n pc ls (.ref (A 0) :: st) := g_get (k0 := 6) tw_0 in_X3 hlk rfl (by decide) rfl d kk
theorem t_put6 {x : Nat} (hA : twA A) (hlk : Cond.fieldLink own index "SecretVaultModel" "nodeMany" "I" ∈ lw_all) (d : decode cc pc = .ok (.putfield index, 3)) (kk : V E cc own M' Po Px X (twO E A (tset M 0 6 x) h) k n (pc + 3) ls st) : V E cc own M' Po Px X (twO E A M h) k n pc ls (.int (nI x) :: .ref (A 0) :: st) := by
  refine g_put (k0 := 6) tw_0 in_X3 hlk tyX3_ok nmX3 rfl (by decide) rfl rfl rfl (Nat.le_of_ble_eq_true rfl) d ?_
  rw [tw_up0_6 hA]
  exact kk
theorem t_get7 (hA : twA A) (hlk : Cond.fieldLink own index "SecretVaultModel" "isDeep" "Z" ∈ lw_all) (d : decode cc pc = .ok (.getfield index, 3)) (kk : V E cc own M' Po Px X (twO E A M h) k n (pc + 3) ls (.int (nI (M 0 7)) :: st)) : V E cc own M' Po Px X (twO E A M h) k n pc ls (.ref (A 0) :: st) := g_get (k0 := 7) tw_0 in_X3 hlk rfl (by decide) rfl d kk
theorem t_put7 {x : Nat} (hA : twA A) (hlk : Cond.fieldLink own index "SecretVaultModel" "isDeep" "Z" ∈ lw_all) (hx : x < 2) (d : decode cc pc = .ok (.putfield index, 3)) (kk : V E cc own M' Po Px X (twO E A (tset M 0 7 x) h) k n (pc + 3) ls st) : V E cc own M' Po Px X (twO E A M h) k n pc ls (.int (nI x) :: .ref (A 0) :: st) := by
  refine g_put (k0 := 7) tw_0 in_X3 hlk tyX3_ok nmX3 rfl (by decide) rfl (by rw [show tyX3 7 = .boolean from rfl]; exact nar_zb hx) (by rcases (show x = 0 ∨ x = 1 by omega) with rfl | rfl <;> rfl) (Nat.le_of_ble_eq_true rfl) d ?_
  rw [tw_up0_7 hA]
  exact kk
theorem t_get8 (hA : twA A) (hlk : Cond.fieldLink own index "SecretVaultModel" "codes" "[I" ∈ lw_all) (d : decode cc pc = .ok (.getfield index, 3)) (kk : V E cc own M' Po Px X (twO E A M h) k n (pc + 3) ls (.ref (A 8) :: st)) : V E cc own M' Po Px X (twO E A M h) k n pc ls (.ref (A 0) :: st) := g_get (k0 := 8) tw_0 in_X3 hlk rfl (by decide) rfl d kk
theorem t_ald8 {i : Nat} (hA : twA A) (hi : i < 30) (d : decode cc pc = .ok (.iaload, 1)) (kk : V E cc own M' Po Px X (twO E A M h) k n (pc + 1) ls (.int (nI (M 8 i)) :: st)) : V E cc own M' Po Px X (twO E A M h) k n pc ls (.int (nI i) :: .ref (A 8) :: st) := g_ialdN (tw_8 hA) hi (by decide) d kk
theorem t_ast8 {i x : Nat} (hA : twA A) (hi : i < 30) (d : decode cc pc = .ok (.iastore, 1)) (kk : V E cc own M' Po Px X (twO E A (tset M 8 i x) h) k n (pc + 1) ls st) : V E cc own M' Po Px X (twO E A M h) k n pc ls (.int (nI x) :: .int (nI i) :: .ref (A 8) :: st) := by
  refine g_iastN (tw_8 hA) hi (by decide) d ?_
  rw [tw_up8 hA]
  exact kk
theorem t_get9 (hA : twA A) (hlk : Cond.fieldLink own index "SecretVaultModel" "details" "[I" ∈ lw_all) (d : decode cc pc = .ok (.getfield index, 3)) (kk : V E cc own M' Po Px X (twO E A M h) k n (pc + 3) ls (.ref (A 9) :: st)) : V E cc own M' Po Px X (twO E A M h) k n pc ls (.ref (A 0) :: st) := g_get (k0 := 9) tw_0 in_X3 hlk rfl (by decide) rfl d kk
theorem t_ald9 {i : Nat} (hA : twA A) (hi : i < 30) (d : decode cc pc = .ok (.iaload, 1)) (kk : V E cc own M' Po Px X (twO E A M h) k n (pc + 1) ls (.int (nI (M 9 i)) :: st)) : V E cc own M' Po Px X (twO E A M h) k n pc ls (.int (nI i) :: .ref (A 9) :: st) := g_ialdN (tw_9 hA) hi (by decide) d kk
theorem t_ast9 {i x : Nat} (hA : twA A) (hi : i < 30) (d : decode cc pc = .ok (.iastore, 1)) (kk : V E cc own M' Po Px X (twO E A (tset M 9 i x) h) k n (pc + 1) ls st) : V E cc own M' Po Px X (twO E A M h) k n pc ls (.int (nI x) :: .int (nI i) :: .ref (A 9) :: st) := by
  refine g_iastN (tw_9 hA) hi (by decide) d ?_
  rw [tw_up9 hA]
  exact kk
theorem t_get10 (hA : twA A) (hlk : Cond.fieldLink own index "SecretVaultModel" "levelMany" "I" ∈ lw_all) (d : decode cc pc = .ok (.getfield index, 3)) (kk : V E cc own M' Po Px X (twO E A M h) k n (pc + 3) ls (.int (nI (M 0 10)) :: st)) : V E cc own M' Po Px X (twO E A M h) k n pc ls (.ref (A 0) :: st) := g_get (k0 := 10) tw_0 in_X3 hlk rfl (by decide) rfl d kk
theorem t_put10 {x : Nat} (hA : twA A) (hlk : Cond.fieldLink own index "SecretVaultModel" "levelMany" "I" ∈ lw_all) (d : decode cc pc = .ok (.putfield index, 3)) (kk : V E cc own M' Po Px X (twO E A (tset M 0 10 x) h) k n (pc + 3) ls st) : V E cc own M' Po Px X (twO E A M h) k n pc ls (.int (nI x) :: .ref (A 0) :: st) := by
  refine g_put (k0 := 10) tw_0 in_X3 hlk tyX3_ok nmX3 rfl (by decide) rfl rfl rfl (Nat.le_of_ble_eq_true rfl) d ?_
  rw [tw_up0_10 hA]
  exact kk
theorem t_get11 (hA : twA A) (hlk : Cond.fieldLink own index "SecretVaultModel" "given" "[I" ∈ lw_all) (d : decode cc pc = .ok (.getfield index, 3)) (kk : V E cc own M' Po Px X (twO E A M h) k n (pc + 3) ls (.ref (A 11) :: st)) : V E cc own M' Po Px X (twO E A M h) k n pc ls (.ref (A 0) :: st) := g_get (k0 := 11) tw_0 in_X3 hlk rfl (by decide) rfl d kk
theorem t_ald11 {i : Nat} (hA : twA A) (hi : i < 3) (d : decode cc pc = .ok (.iaload, 1)) (kk : V E cc own M' Po Px X (twO E A M h) k n (pc + 1) ls (.int (nI (M 11 i)) :: st)) : V E cc own M' Po Px X (twO E A M h) k n pc ls (.int (nI i) :: .ref (A 11) :: st) := g_ialdN (tw_11 hA) hi (by decide) d kk
theorem t_ast11 {i x : Nat} (hA : twA A) (hi : i < 3) (d : decode cc pc = .ok (.iastore, 1)) (kk : V E cc own M' Po Px X (twO E A (tset M 11 i x) h) k n (pc + 1) ls st) : V E cc own M' Po Px X (twO E A M h) k n pc ls (.int (nI x) :: .int (nI i) :: .ref (A 11) :: st) := by
  refine g_iastN (tw_11 hA) hi (by decide) d ?_
  rw [tw_up11 hA]
  exact kk
theorem t_get12 (hA : twA A) (hlk : Cond.fieldLink own index "SecretVaultModel" "paper" "[C" ∈ lw_all) (d : decode cc pc = .ok (.getfield index, 3)) (kk : V E cc own M' Po Px X (twO E A M h) k n (pc + 3) ls (.ref (A 12) :: st)) : V E cc own M' Po Px X (twO E A M h) k n pc ls (.ref (A 0) :: st) := g_get (k0 := 12) tw_0 in_X3 hlk rfl (by decide) rfl d kk
theorem t_ald12 {i : Nat} (hA : twA A) (hi : i < 100) (d : decode cc pc = .ok (.caload, 1)) (kk : V E cc own M' Po Px X (twO E A M h) k n (pc + 1) ls (.int (nI (M 12 i)) :: st)) : V E cc own M' Po Px X (twO E A M h) k n pc ls (.int (nI i) :: .ref (A 12) :: st) := g_caldN (tw_12 hA) hi (by decide) d kk
theorem t_ast12 {i x : Nat} (hA : twA A) (hi : i < 100) (hx : x < 65536) (d : decode cc pc = .ok (.castore, 1)) (kk : V E cc own M' Po Px X (twO E A (tset M 12 i x) h) k n (pc + 1) ls st) : V E cc own M' Po Px X (twO E A M h) k n pc ls (.int (nI x) :: .int (nI i) :: .ref (A 12) :: st) := by
  refine g_castN (tw_12 hA) hi (by decide) hx d ?_
  rw [tw_up12 hA]
  exact kk
theorem t_get13 (hA : twA A) (hlk : Cond.fieldLink own index "SecretVaultModel" "papered" "I" ∈ lw_all) (d : decode cc pc = .ok (.getfield index, 3)) (kk : V E cc own M' Po Px X (twO E A M h) k n (pc + 3) ls (.int (nI (M 0 13)) :: st)) : V E cc own M' Po Px X (twO E A M h) k n pc ls (.ref (A 0) :: st) := g_get (k0 := 13) tw_0 in_X3 hlk rfl (by decide) rfl d kk
theorem t_put13 {x : Nat} (hA : twA A) (hlk : Cond.fieldLink own index "SecretVaultModel" "papered" "I" ∈ lw_all) (d : decode cc pc = .ok (.putfield index, 3)) (kk : V E cc own M' Po Px X (twO E A (tset M 0 13 x) h) k n (pc + 3) ls st) : V E cc own M' Po Px X (twO E A M h) k n pc ls (.int (nI x) :: .ref (A 0) :: st) := by
  refine g_put (k0 := 13) tw_0 in_X3 hlk tyX3_ok nmX3 rfl (by decide) rfl rfl rfl (Nat.le_of_ble_eq_true rfl) d ?_
  rw [tw_up0_13 hA]
  exact kk
theorem t_get14 (hA : twA A) (hlk : Cond.fieldLink own index "SecretVaultModel" "tape" "[C" ∈ lw_all) (d : decode cc pc = .ok (.getfield index, 3)) (kk : V E cc own M' Po Px X (twO E A M h) k n (pc + 3) ls (.ref (A 14) :: st)) : V E cc own M' Po Px X (twO E A M h) k n pc ls (.ref (A 0) :: st) := g_get (k0 := 14) tw_0 in_X3 hlk rfl (by decide) rfl d kk
theorem t_ald14 {i : Nat} (hA : twA A) (hi : i < 40) (d : decode cc pc = .ok (.caload, 1)) (kk : V E cc own M' Po Px X (twO E A M h) k n (pc + 1) ls (.int (nI (M 14 i)) :: st)) : V E cc own M' Po Px X (twO E A M h) k n pc ls (.int (nI i) :: .ref (A 14) :: st) := g_caldN (tw_14 hA) hi (by decide) d kk
theorem t_ast14 {i x : Nat} (hA : twA A) (hi : i < 40) (hx : x < 65536) (d : decode cc pc = .ok (.castore, 1)) (kk : V E cc own M' Po Px X (twO E A (tset M 14 i x) h) k n (pc + 1) ls st) : V E cc own M' Po Px X (twO E A M h) k n pc ls (.int (nI x) :: .int (nI i) :: .ref (A 14) :: st) := by
  refine g_castN (tw_14 hA) hi (by decide) hx d ?_
  rw [tw_up14 hA]
  exact kk
theorem t_get15 (hA : twA A) (hlk : Cond.fieldLink own index "SecretVaultModel" "taped" "I" ∈ lw_all) (d : decode cc pc = .ok (.getfield index, 3)) (kk : V E cc own M' Po Px X (twO E A M h) k n (pc + 3) ls (.int (nI (M 0 15)) :: st)) : V E cc own M' Po Px X (twO E A M h) k n pc ls (.ref (A 0) :: st) := g_get (k0 := 15) tw_0 in_X3 hlk rfl (by decide) rfl d kk
theorem t_put15 {x : Nat} (hA : twA A) (hlk : Cond.fieldLink own index "SecretVaultModel" "taped" "I" ∈ lw_all) (d : decode cc pc = .ok (.putfield index, 3)) (kk : V E cc own M' Po Px X (twO E A (tset M 0 15 x) h) k n (pc + 3) ls st) : V E cc own M' Po Px X (twO E A M h) k n pc ls (.int (nI x) :: .ref (A 0) :: st) := by
  refine g_put (k0 := 15) tw_0 in_X3 hlk tyX3_ok nmX3 rfl (by decide) rfl rfl rfl (Nat.le_of_ble_eq_true rfl) d ?_
  rw [tw_up0_15 hA]
  exact kk
theorem t_get16 (hA : twA A) (hlk : Cond.fieldLink own index "SecretVaultModel" "wrongAt" "I" ∈ lw_all) (d : decode cc pc = .ok (.getfield index, 3)) (kk : V E cc own M' Po Px X (twO E A M h) k n (pc + 3) ls (.int (nI (M 0 16)) :: st)) : V E cc own M' Po Px X (twO E A M h) k n pc ls (.ref (A 0) :: st) := g_get (k0 := 16) tw_0 in_X3 hlk rfl (by decide) rfl d kk
theorem t_put16 {x : Nat} (hA : twA A) (hlk : Cond.fieldLink own index "SecretVaultModel" "wrongAt" "I" ∈ lw_all) (d : decode cc pc = .ok (.putfield index, 3)) (kk : V E cc own M' Po Px X (twO E A (tset M 0 16 x) h) k n (pc + 3) ls st) : V E cc own M' Po Px X (twO E A M h) k n pc ls (.int (nI x) :: .ref (A 0) :: st) := by
  refine g_put (k0 := 16) tw_0 in_X3 hlk tyX3_ok nmX3 rfl (by decide) rfl rfl rfl (Nat.le_of_ble_eq_true rfl) d ?_
  rw [tw_up0_16 hA]
  exact kk
theorem t_get17 (hA : twA A) (hlk : Cond.fieldLink own index "SecretVaultModel" "at" "I" ∈ lw_all) (d : decode cc pc = .ok (.getfield index, 3)) (kk : V E cc own M' Po Px X (twO E A M h) k n (pc + 3) ls (.int (nI (M 0 17)) :: st)) : V E cc own M' Po Px X (twO E A M h) k n pc ls (.ref (A 0) :: st) := g_get (k0 := 17) tw_0 in_X3 hlk rfl (by decide) rfl d kk
theorem t_put17 {x : Nat} (hA : twA A) (hlk : Cond.fieldLink own index "SecretVaultModel" "at" "I" ∈ lw_all) (d : decode cc pc = .ok (.putfield index, 3)) (kk : V E cc own M' Po Px X (twO E A (tset M 0 17 x) h) k n (pc + 3) ls st) : V E cc own M' Po Px X (twO E A M h) k n pc ls (.int (nI x) :: .ref (A 0) :: st) := by
  refine g_put (k0 := 17) tw_0 in_X3 hlk tyX3_ok nmX3 rfl (by decide) rfl rfl rfl (Nat.le_of_ble_eq_true rfl) d ?_
  rw [tw_up0_17 hA]
  exact kk
theorem t_get18 (hA : twA A) (hlk : Cond.fieldLink own index "SecretVaultModel" "value" "I" ∈ lw_all) (d : decode cc pc = .ok (.getfield index, 3)) (kk : V E cc own M' Po Px X (twO E A M h) k n (pc + 3) ls (.int (nI (M 0 18)) :: st)) : V E cc own M' Po Px X (twO E A M h) k n pc ls (.ref (A 0) :: st) := g_get (k0 := 18) tw_0 in_X3 hlk rfl (by decide) rfl d kk
theorem t_put18 {x : Nat} (hA : twA A) (hlk : Cond.fieldLink own index "SecretVaultModel" "value" "I" ∈ lw_all) (d : decode cc pc = .ok (.putfield index, 3)) (kk : V E cc own M' Po Px X (twO E A (tset M 0 18 x) h) k n (pc + 3) ls st) : V E cc own M' Po Px X (twO E A M h) k n pc ls (.int (nI x) :: .ref (A 0) :: st) := by
  refine g_put (k0 := 18) tw_0 in_X3 hlk tyX3_ok nmX3 rfl (by decide) rfl rfl rfl (Nat.le_of_ble_eq_true rfl) d ?_
  rw [tw_up0_18 hA]
  exact kk
theorem t_get19 (hA : twA A) (hlk : Cond.fieldLink own index "SecretVaultModel" "readPlace" "I" ∈ lw_all) (d : decode cc pc = .ok (.getfield index, 3)) (kk : V E cc own M' Po Px X (twO E A M h) k n (pc + 3) ls (.int (nI (M 0 19)) :: st)) : V E cc own M' Po Px X (twO E A M h) k n pc ls (.ref (A 0) :: st) := g_get (k0 := 19) tw_0 in_X3 hlk rfl (by decide) rfl d kk
theorem t_put19 {x : Nat} (hA : twA A) (hlk : Cond.fieldLink own index "SecretVaultModel" "readPlace" "I" ∈ lw_all) (d : decode cc pc = .ok (.putfield index, 3)) (kk : V E cc own M' Po Px X (twO E A (tset M 0 19 x) h) k n (pc + 3) ls st) : V E cc own M' Po Px X (twO E A M h) k n pc ls (.int (nI x) :: .ref (A 0) :: st) := by
  refine g_put (k0 := 19) tw_0 in_X3 hlk tyX3_ok nmX3 rfl (by decide) rfl rfl rfl (Nat.le_of_ble_eq_true rfl) d ?_
  rw [tw_up0_19 hA]
  exact kk
theorem t_get20 (hA : twA A) (hlk : Cond.fieldLink own index "SecretVaultModel" "readValue" "I" ∈ lw_all) (d : decode cc pc = .ok (.getfield index, 3)) (kk : V E cc own M' Po Px X (twO E A M h) k n (pc + 3) ls (.int (nI (M 0 20)) :: st)) : V E cc own M' Po Px X (twO E A M h) k n pc ls (.ref (A 0) :: st) := g_get (k0 := 20) tw_0 in_X3 hlk rfl (by decide) rfl d kk
theorem t_put20 {x : Nat} (hA : twA A) (hlk : Cond.fieldLink own index "SecretVaultModel" "readValue" "I" ∈ lw_all) (d : decode cc pc = .ok (.putfield index, 3)) (kk : V E cc own M' Po Px X (twO E A (tset M 0 20 x) h) k n (pc + 3) ls st) : V E cc own M' Po Px X (twO E A M h) k n pc ls (.int (nI x) :: .ref (A 0) :: st) := by
  refine g_put (k0 := 20) tw_0 in_X3 hlk tyX3_ok nmX3 rfl (by decide) rfl rfl rfl (Nat.le_of_ble_eq_true rfl) d ?_
  rw [tw_up0_20 hA]
  exact kk
theorem t_get21 (hA : twA A) (hlk : Cond.fieldLink own index "SecretVaultModel" "readEpoch" "I" ∈ lw_all) (d : decode cc pc = .ok (.getfield index, 3)) (kk : V E cc own M' Po Px X (twO E A M h) k n (pc + 3) ls (.int (nI (M 0 21)) :: st)) : V E cc own M' Po Px X (twO E A M h) k n pc ls (.ref (A 0) :: st) := g_get (k0 := 21) tw_0 in_X3 hlk rfl (by decide) rfl d kk
theorem t_put21 {x : Nat} (hA : twA A) (hlk : Cond.fieldLink own index "SecretVaultModel" "readEpoch" "I" ∈ lw_all) (d : decode cc pc = .ok (.putfield index, 3)) (kk : V E cc own M' Po Px X (twO E A (tset M 0 21 x) h) k n (pc + 3) ls st) : V E cc own M' Po Px X (twO E A M h) k n pc ls (.int (nI x) :: .ref (A 0) :: st) := by
  refine g_put (k0 := 21) tw_0 in_X3 hlk tyX3_ok nmX3 rfl (by decide) rfl rfl rfl (Nat.le_of_ble_eq_true rfl) d ?_
  rw [tw_up0_21 hA]
  exact kk
end
