/-! SHARES, STATES, SECRETS -/
set_option maxRecDepth 100000
/-- the share at place x of slot s, as memory g tells it; S: the slot's tags -/
abbrev shC (g : Nat → Nat) (s x : Nat) : va_E := gO 4 [.int (nI x), .int (nI (gSh g s x 1)), .int (nI (gSh g s x 2))]
def shO (S : Nat) (g : Nat → Nat) (s x : Nat) (o : Option Nat) (h : AH) : Prop := (gSh g s x 0 = 1 ∧ ∃ a, o = some a ∧ h a = some (S + 3 + x, shC g s x)) ∨ (¬ gSh g s x 0 = 1 ∧ o = none)
theorem shO.n {S : Nat} {g : Nat → Nat} {s x : Nat} {o : Option Nat} {h : AH} (hs : shO S g s x o h) (ho : o = none) : ¬ gSh g s x 0 = 1 := by
  rcases hs with ⟨h1, a, h2, -⟩ | ⟨h1, -⟩
  · rw [ho] at h2
    cases h2
  · exact h1
theorem shO.s {S : Nat} {g : Nat → Nat} {s x a : Nat} {o : Option Nat} {h : AH} (hs : shO S g s x o h) (ho : o = some a) : gSh g s x 0 = 1 ∧ h a = some (S + 3 + x, shC g s x) := by
  rcases hs with ⟨h1, a', h2, h3⟩ | ⟨-, h2⟩
  · rw [ho] at h2
    cases h2
    exact ⟨h1, h3⟩
  · rw [ho] at h2
    cases h2
theorem shO.fr {S : Nat} {g : Nat → Nat} {s x : Nat} {o : Option Nat} {h h' : AH} {P : Nat → Prop} (hs : shO S g s x o h) (hf : Fr P h h') (hp : ¬ P (S + 3 + x)) : shO S g s x o h' := by
  rcases hs with ⟨h1, a, h2, h3⟩ | hs
  · exact Or.inl ⟨h1, a, h2, hf _ _ _ h3 hp⟩
  · exact Or.inr hs
/-- a slot's policy -/
def poO (E : GE) (g : Nat → Nat) (s : Nat) (p : Option Nat) (h : AH) : Prop := (gOf g s 11 = 0 ∧ p = none) ∨ (¬ gOf g s 11 = 0 ∧ ∃ a, p = some a ∧ Rep E h 200 a (plA g s))
theorem poO.fr {E : GE} {g : Nat → Nat} {s : Nat} {p : Option Nat} {h h' : AH} {P : Nat → Prop} (hs : poO E g s p h) (hf : Fr P h h') (h7 : ¬ P 7) (h8 : ¬ P 8) : poO E g s p h' := by
  rcases hs with hs | ⟨h1, a, h2, h3⟩
  · exact Or.inl hs
  · exact Or.inr ⟨h1, a, h2, h3.fr hf h7 h8⟩
/-- a slot's secret at a, as memory g tells it -/
def seX (E : GE) (S : Nat) (g : Nat → Nat) (s a c b : Nat) (p : Option Nat) (fc : Nat → Nat) (fs : Nat → Option Nat) (h : AH) : Prop := h a = some (S, gO 3 [.int (nI (gOf g s 1)), .int (nI (gOf g s 2)), .ref c, va_rf p, .ref b]) ∧ h c = some (S + 1, gAIn E (gOf g s 1) fc) ∧ (∀ j, j < gOf g s 1 → fc j = gOf g s (3 + j)) ∧ h b = some (S + 2, gAR E 7 25 fs) ∧ (∀ x, 1 ≤ x → x ≤ 24 → shO S g s x (fs x) h) ∧ poO E g s p h
def seO (E : GE) (S : Nat) (g : Nat → Nat) (s a : Nat) (h : AH) : Prop := ∃ (c b : Nat) (p : Option Nat) (fc : Nat → Nat) (fs : Nat → Option Nat), seX E S g s a c b p fc fs h
theorem seO.fr {E : GE} {S : Nat} {g : Nat → Nat} {s a : Nat} {h h' : AH} {P : Nat → Prop} (hs : seO E S g s a h) (hf : Fr P h h') (hp : ∀ t, t < 28 → ¬ P (S + t)) (h7 : ¬ P 7) (h8 : ¬ P 8) : seO E S g s a h' := by
  obtain ⟨c, b, p, fc, fs, h1, h2, h3, h4, h5, h6⟩ := hs
  exact ⟨c, b, p, fc, fs, hf _ _ _ h1 (hp 0 (by decide)), hf _ _ _ h2 (hp 1 (by decide)), h3, hf _ _ _ h4 (hp 2 (by decide)), fun x x1 x2 => (h5 x x1 x2).fr hf (by rw [Nat.add_assoc]; exact hp (3 + x) (by omega)), h6.fr hf h7 h8⟩
theorem seO.rv {E : GE} {S : Nat} {g : Nat → Nat} {s a : Nat} {h : AH} (hs : seO E S g s a h) : gRv E h a "SecretVault$Secret" := by
  obtain ⟨c, b, p, fc, fs, h1, -⟩ := hs
  exact gRv.g h1 rfl rfl
/-- the constants of State -/
def sTm (i : Nat) : Term := .static "SecretVault$State" (if i = 0 then "GOOD" else if i = 1 then "STALE" else "WRONG") "LSecretVault$State;"
def sA (E : GE) (i : Nat) : Nat := stA E (sTm i)
theorem gE.s0 {E : GE} (hE : gE E) : stV E (sTm 0) = some (.ref (sA E 0)) ∧ OldO E "SecretVault$State$1" (sA E 0) := hE.ex (t := sTm 0) (show _ ∈ flatC _ by decide +kernel)
theorem gE.sz0 {E : GE} (hE : gE E) : va_Z "SecretVault$State" "GOOD" "LSecretVault$State;" (.ref (sA E 0)) (gA E) E.S0 E.S0.heap := hE.zR hE.s0.1 q1037 (List.mem_filter.mp q94).1
theorem gE.so0 {E : GE} (hE : gE E) : gOF E "java/lang/Enum" "ordinal" "I" (.int (nI 0)) (sA E 0) := hE.fl hE.s0.1 (show _ ∈ flatC _ by decide +kernel)
theorem gE.s1 {E : GE} (hE : gE E) : stV E (sTm 1) = some (.ref (sA E 1)) ∧ OldO E "SecretVault$State$2" (sA E 1) := hE.ex (t := sTm 1) (show _ ∈ flatC _ by decide +kernel)
theorem gE.sz1 {E : GE} (hE : gE E) : va_Z "SecretVault$State" "STALE" "LSecretVault$State;" (.ref (sA E 1)) (gA E) E.S0 E.S0.heap := hE.zR hE.s1.1 q1518 (List.mem_filter.mp q94).1
theorem gE.so1 {E : GE} (hE : gE E) : gOF E "java/lang/Enum" "ordinal" "I" (.int (nI 1)) (sA E 1) := hE.fl hE.s1.1 (show _ ∈ flatC _ by decide +kernel)
theorem gE.s2 {E : GE} (hE : gE E) : stV E (sTm 2) = some (.ref (sA E 2)) ∧ OldO E "SecretVault$State$3" (sA E 2) := hE.ex (t := sTm 2) (show _ ∈ flatC _ by decide +kernel)
theorem gE.sz2 {E : GE} (hE : gE E) : va_Z "SecretVault$State" "WRONG" "LSecretVault$State;" (.ref (sA E 2)) (gA E) E.S0 E.S0.heap := hE.zR hE.s2.1 q1520 (List.mem_filter.mp q94).1
theorem gE.so2 {E : GE} (hE : gE E) : gOF E "java/lang/Enum" "ordinal" "I" (.int (nI 2)) (sA E 2) := hE.fl hE.s2.1 (show _ ∈ flatC _ by decide +kernel)
def vTm : Term := .static "SecretVault$State" "$VALUES" "[LSecretVault$State;"
theorem gE.va {E : GE} (hE : gE E) : gTb E (.object "SecretVault$State") (stA E vTm) 3 (fun i => .ref (sA E i)) := (hE.tb (tm := vTm) (by decide) (show _ ∈ flatC _ by decide +kernel) (show _ ∈ flatC _ by decide +kernel) (fun j hj => by
  rcases (show j = 0 ∨ j = 1 ∨ j = 2 by omega) with rfl | rfl | rfl
  · exact va_eqv (hE.nr (show Cond.eq (.elem vTm (.int (0 : Int32))) (sTm 0) ∈ flatC _ by decide +kernel)) hE.s0.1
  · exact va_eqv (hE.nr (show Cond.eq (.elem vTm (.int (1 : Int32))) (sTm 1) ∈ flatC _ by decide +kernel)) hE.s1.1
  · exact va_eqv (hE.nr (show Cond.eq (.elem vTm (.int (2 : Int32))) (sTm 2) ∈ flatC _ by decide +kernel)) hE.s2.1)).2
theorem gE.vo {E : GE} (hE : gE E) : stV E vTm = some (.ref (stA E vTm)) ∧ OldO E "[LSecretVault$State;" (stA E vTm) := hE.ex (t := vTm) (show _ ∈ flatC _ by decide +kernel)
theorem gE.vs {E : GE} (hE : gE E) (cell : Cell) (hc : E.S0.heap[stA E vTm]? = some cell) : cell.slots.size = 3 := by
  obtain ⟨cl, e1, e2, e3, e4, e5, e6, e7⟩ := hE.va
  cases hc.symm.trans e1
  have hl := va_eqt (hE.nr (show Cond.eq (.length vTm) (.int (3 : Int32)) ∈ flatC _ by decide +kernel))
  obtain ⟨t, cell2, ht, hat, hv⟩ := Term.length_spec hl
  have e8 : stA E vTm = t := by
    have h9 := hE.vo.1
    have h10 : stV E vTm = some (.ref t) := ht
    rw [h9] at h10
    injection h10 with h10
    injection h10
  obtain ⟨hcell, -, -, -⟩ := State.arrayAt?_spec hat
  rw [← e8] at hcell
  cases hc.symm.trans hcell
  have hall := Cond.all_elim ht hat (by simpa [Cond.before, Cond.holds] using hE.nr (show Cond.all vTm (.le (.index 0) (.int (2 : Int32))) ∈ flatC _ by decide +kernel))
  by_cases h4 : cell.slots.size ≤ 3
  · omega
  · have h5 := hall 3 (by omega)
    exact absurd h5 (by
      rw [show ((Cond.le (.index 0) (.int (2 : Int32))).value #[Value.ref E.b] E.S0 none E.S0 [3]) = some false from rfl]
      decide)
