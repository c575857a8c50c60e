/-! A SLOTs SHARES CHANGE -/
set_option maxRecDepth 100000
/-- a slot's share is laid at place x -/
def shG (g : Nat → Nat) (s x v e : Nat) : Nat → Nat := nup (nup (nup g (38 + 124 * s + (52 + 3 * (x - 1))) 1) (38 + 124 * s + (52 + 3 * (x - 1) + 1)) v) (38 + 124 * s + (52 + 3 * (x - 1) + 2)) e
theorem shG_t (M : TW) (s x v e : Nat) : tShare M s x v e 1 = shG (M 1) s x v e := rfl
theorem shG_ne {g : Nat → Nat} {s x v e i : Nat} (h : i < 38 + 124 * s + (52 + 3 * (x - 1)) ∨ 38 + 124 * s + (52 + 3 * (x - 1) + 2) < i) : shG g s x v e i = g i := by
  unfold shG
  rw [nup_ne _ _ (by omega), nup_ne _ _ (by omega), nup_ne _ _ (by omega)]
theorem shG_0 (g : Nat → Nat) (s x v e : Nat) : gSh (shG g s x v e) s x 0 = 1 := by
  show shG g s x v e (38 + 124 * s + (52 + 3 * (x - 1))) = 1
  unfold shG
  rw [nup_ne _ _ (by omega), nup_ne _ _ (by omega), nup_self]
theorem shG_1 (g : Nat → Nat) (s x v e : Nat) : gSh (shG g s x v e) s x 1 = v := by
  show shG g s x v e (38 + 124 * s + (52 + 3 * (x - 1) + 1)) = v
  unfold shG
  rw [nup_ne _ _ (by omega), nup_self]
theorem shG_2 (g : Nat → Nat) (s x v e : Nat) : gSh (shG g s x v e) s x 2 = e := by
  show shG g s x v e (38 + 124 * s + (52 + 3 * (x - 1) + 2)) = e
  unfold shG
  rw [nup_self]
theorem shG_y {g : Nat → Nat} {s x v e y c : Nat} (hx : 1 ≤ x) (hy : 1 ≤ y) (hn : y ≠ x) (hc : c < 3) : gSh (shG g s x v e) s y c = gSh g s y c := shG_ne (by omega)
theorem shG_w {g : Nat → Nat} {s x v e w : Nat} (hw : w < 52) : gOf (shG g s x v e) s w = gOf g s w := shG_ne (Or.inl (by omega))
theorem shG_s {g : Nat → Nat} {s x v e r w : Nat} (hr : r ≠ s) (hx : 1 ≤ x ∧ x ≤ 24) (hw : w < 124) : gOf (shG g s x v e) r w = gOf g r w := shG_ne (by omega)
theorem prF_cg {g g' : Nat → Nat} {s x : Nat} : ∀ K, (∀ j, j < K → gOf g' s (3 + j) = gOf g s (3 + j)) → prF g' s x K = prF g s x K
  | 0, _ => rfl
  | K + 1, h => by
    show prF g' s x K * (gOf g' s (3 + K) ^ exF x K % 2039) % 2039 = prF g s x K * (gOf g s (3 + K) ^ exF x K % 2039) % 2039
    rw [h K (Nat.lt_succ_self K), prF_cg K (fun j hj => h j (Nat.lt_succ_of_lt hj))]
theorem stF_cg {g g' : Nat → Nat} {s x : Nat} (h1 : gOf g' s 1 = gOf g s 1) (hk : gOf g s 1 ≤ 8) (h2 : gOf g' s 2 = gOf g s 2) (hj : ∀ j, j < 8 → gOf g' s (3 + j) = gOf g s (3 + j)) (hv : gSh g' s x 1 = gSh g s x 1) (he : gSh g' s x 2 = gSh g s x 2) : stF g' s x = stF g s x := by
  unfold stF
  rw [hv, he, h2, h1, prF_cg (gOf g s 1) (fun j h => hj j (by omega))]
theorem vaI_cg {g g' : Nat → Nat} {s : Nat} {nd : Nat → Nat} {x i : Nat} (h : gSh g' s (nd i) 1 = gSh g s (nd i) 1) : ∀ j, vaI g' s nd x i j = vaI g s nd x i j
  | 0 => h
  | j + 1 => by
    unfold vaI
    rw [vaI_cg h j]
theorem vaS_cg {g g' : Nat → Nat} {s : Nat} {nd : Nat → Nat} {k x : Nat} : ∀ i, (∀ j, j < i → gSh g' s (nd j) 1 = gSh g s (nd j) 1) → vaS g' s nd k x i = vaS g s nd k x i
  | 0, _ => rfl
  | i + 1, h => by
    show (vaS g' s nd k x i + vaI g' s nd x i k) % 1019 = (vaS g s nd k x i + vaI g s nd x i k) % 1019
    rw [vaS_cg i (fun j hj => h j (Nat.lt_succ_of_lt hj)), vaI_cg (h i (Nat.lt_succ_self i))]
/-- a new share at place x -/
theorem seX.sh {E : GE} {S : Nat} {g : Nat → Nat} {s a c b q x v e : Nat} {p : Option Nat} {fc : Nat → Nat} {fs : Nat → Option Nat} {h : AH} (hs : seX E S g s a c b p fc fs h) (hq : h q = none) (hx : 1 ≤ x ∧ x ≤ 24) (hle : gOf g s 11 ≤ 40) (hk : gOf g s 1 ≤ 8) (hS : 8 < S) : seX E S (shG g s x v e) s a c b p fc (nup fs x (some q)) (g_up (g_up h q (S + 3 + x, gO 4 [.int (nI x), .int (nI v), .int (nI e)])) b (S + 2, gAR E 7 25 (nup fs x (some q)))) := by
  obtain ⟨h1, h2, h3, h4, h5, h6⟩ := hs
  have b4 := g_upf (z := (S + 3 + x, gO 4 [.int (nI x), .int (nI v), .int (nI e)])) h4 hq
  have fr : Fr (fun u => u = S + 2) h (g_up (g_up h q (S + 3 + x, gO 4 [.int (nI x), .int (nI v), .int (nI e)])) b (S + 2, gAR E 7 25 (nup fs x (some q)))) := (Fr.new hq).put2 b4 rfl rfl
  refine ⟨?_, ?_, fun j hj => ?_, g_up_self _ _ _, fun y y1 y2 => ?_, ?_⟩
  · rw [shG_w (by decide), shG_w (by decide)]
    exact fr _ _ _ h1 (by omega)
  · rw [shG_w (by decide)]
    exact fr _ _ _ h2 (by omega)
  · rw [shG_w (by decide)] at hj
    rw [shG_w (by omega)]
    exact h3 j hj
  · by_cases ey : y = x
    · subst ey
      refine Or.inl ⟨shG_0 _ _ _ _ _, q, nup_self _ _ _, ?_⟩
      unfold shC
      rw [shG_1, shG_2]
      exact g_upt (g_up_self _ _ _) b4 (by omega)
    · rw [nup_ne _ _ ey]
      exact ((h5 y y1 y2).fr fr (by omega)).cg (fun c hc => shG_y hx.1 y1 ey hc)
  · exact (h6.fr fr (by omega) (by omega)).cg (shG_w (by decide)) hle (fun k hk => shG_w (by omega))
