/-! THE WORLD: what it is told by -/
set_option maxRecDepth 100000
/-! what a secret, a slot, a world are told by: their numbers alone -/
theorem hr_cg {t t' : Nat → Nat} {n : Nat} (h : ∀ k, k < n → t' k = t k) : hrF t' n = hrF t n := by
  funext x
  unfold hrF
  split
  · rename_i hx
    exact h x hx
  · rfl
theorem plA_cg {g g' : Nat → Nat} {s : Nat} (h11 : gOf g' s 11 = gOf g s 11) (hle : gOf g s 11 ≤ 40) (h : ∀ k, k < 40 → gOf g' s (12 + k) = gOf g s (12 + k)) : plA g' s = plA g s := by
  unfold plA plR
  rw [h11, hr_cg (t := pT g s) (t' := pT g' s) (fun k hk => h k (by omega))]
theorem poO.cg {E : GE} {g g' : Nat → Nat} {s : Nat} {p : Option Nat} {h : AH} (hp : poO E g s p h) (h11 : gOf g' s 11 = gOf g s 11) (hle : gOf g s 11 ≤ 40) (hh : ∀ k, k < 40 → gOf g' s (12 + k) = gOf g s (12 + k)) : poO E g' s p h := by
  unfold poO
  rw [h11, plA_cg h11 hle hh]
  exact hp
theorem shO.cg {S : Nat} {g g' : Nat → Nat} {s x : Nat} {o : Option Nat} {h : AH} (hs : shO S g s x o h) (hh : ∀ c, c < 3 → gSh g' s x c = gSh g s x c) : shO S g' s x o h := by
  unfold shO shC
  rw [hh 0 (by decide), hh 1 (by decide), hh 2 (by decide)]
  exact hs
theorem gSh_of (g : Nat → Nat) (s x c : Nat) : gSh g s x c = gOf g s (52 + 3 * (x - 1) + c) := rfl
theorem seO.cg {E : GE} {S : Nat} {g g' : Nat → Nat} {s a : Nat} {h : AH} (hs : seO E S g s a h) (hle : gOf g s 11 ≤ 40) (hk : gOf g s 1 ≤ 8) (hh : ∀ w, 1 ≤ w → w < 124 → gOf g' s w = gOf g s w) : seO E S g' s a h := by
  obtain ⟨c, b, p, fc, fs, h1, h2, h3, h4, h5, h6⟩ := hs
  refine ⟨c, b, p, fc, fs, ?_, ?_, ?_, h4, fun x x1 x2 => (h5 x x1 x2).cg (fun c hc => ?_), h6.cg (hh 11 (by decide) (by decide)) hle (fun k hk => hh _ (by omega) (by omega))⟩
  · rw [hh 1 (by decide) (by decide), hh 2 (by decide) (by decide)]
    exact h1
  · rw [hh 1 (by decide) (by decide)]
    exact h2
  · intro j hj
    rw [hh 1 (by decide) (by decide)] at hj
    rw [hh _ (by omega) (by omega)]
    exact h3 j hj
  · rw [gSh_of, gSh_of]
    exact hh _ (by omega) (by omega)
theorem slO.cg {E : GE} {B : Nat} {g g' : Nat → Nat} {s : Nat} {o : Option Nat} {h : AH} (hs : slO E B g s o h) (hle : gOf g s 11 ≤ 40) (hk : gOf g s 1 ≤ 8) (hh : ∀ w, w < 124 → gOf g' s w = gOf g s w) : slO E B g' s o h := by
  rcases hs with ⟨h1, a, h2, h3⟩ | ⟨h1, h2⟩
  · exact Or.inl ⟨(hh 0 (by decide)).trans h1, a, h2, h3.cg hle hk (fun w _ hw => hh w hw)⟩
  · exact Or.inr ⟨fun z => h1 ((hh 0 (by decide)).symm.trans z), h2⟩
theorem evL_cg {g g' : Nat → Nat} (h17 : g' 17 = g 17) (hle : g 17 ≤ 20) (h : ∀ k, k < 20 → g' (18 + k) = g (18 + k)) : evL g' = evL g := by
  unfold evL
  rw [h17]
  apply List.map_congr_left
  intro k hk
  rw [List.mem_range] at hk
  exact h _ (by omega)
/-- the events behind another one -/
theorem evL_ev {g g' : Nat → Nat} {c : Nat} (hle : g 17 ≤ 20) (h17 : g' 17 = g 17 + (if g 17 < 20 then 1 else 0)) (h0 : g' 18 = c) (h : ∀ k, k < 19 → g' (18 + (k + 1)) = g (18 + k)) : evL g' = (if (evL g).length = 20 then (evL g).tail else evL g) ++ [c] := by
  have hl := evL_len g
  rw [hl]
  apply List.ext_getElem?
  intro i
  by_cases h20 : g 17 = 20
  · rw [if_pos h20]
    have hn : g' 17 = 20 := by rw [h17, if_neg (by omega)]; omega
    have htl : (evL g).tail.length = 19 := by rw [List.length_tail, hl]; omega
    by_cases hi : i < 19
    · rw [evL_at (by omega), List.getElem?_append_left (by omega), List.getElem?_tail, evL_at (by omega), hn, h20]
      congr 1
      rw [show 20 - 1 - i = (20 - 1 - (i + 1)) + 1 by omega]
      exact h _ (by omega)
    · by_cases hi2 : i = 19
      · rw [evL_at (by omega), List.getElem?_append_right (by omega), htl, hi2, hn]
        show some (g' (18 + (20 - 1 - 19))) = _
        rw [show 18 + (20 - 1 - 19) = 18 by omega, h0]
        rfl
      · rw [List.getElem?_eq_none (by rw [evL_len]; omega), List.getElem?_eq_none (by rw [List.length_append, List.length_singleton]; omega)]
  · rw [if_neg h20]
    have hn : g' 17 = g 17 + 1 := by rw [h17, if_pos (by omega)]
    by_cases hi : i < g 17
    · rw [evL_at (by omega), List.getElem?_append_left (by omega), evL_at hi, hn]
      congr 1
      rw [show g 17 + 1 - 1 - i = (g 17 - 1 - i) + 1 by omega]
      exact h _ (by omega)
    · by_cases hi2 : i = g 17
      · rw [evL_at (by omega), List.getElem?_append_right (by omega), hl, hi2, hn, show 18 + (g 17 + 1 - 1 - g 17) = 18 by omega, h0, Nat.sub_self]
        rfl
      · rw [List.getElem?_eq_none (by rw [evL_len]; omega), List.getElem?_eq_none (by rw [List.length_append, List.length_singleton]; omega)]
