/-! POLICIES AS TEXTS: digits and the counts around them -/
set_option maxRecDepth 100000
abbrev dgt (t : Nat → Nat) (k : Nat) : Prop := 48 ≤ t k ∧ t k ≤ 57
abbrev cnC (t : Nat → Nat) (n k : Nat) : Prop := k + 1 < n ∧ t (k + 1) = 111
/-- where the bracket that is open at e is closed -/
def enO (t : Nat → Nat) : Nat → Nat → Nat → Option Nat
  | 0, _, _ => none
  | u + 1, e, d => if 0 < stp d (t e) then enO t u (e + 1) (stp d (t e)) else some (e + 1)
def enE (t : Nat → Nat) (n k : Nat) : Nat := (enO t (n - (k + 3)) (k + 3) 0).getD 0
/-- the counts among the m places from a on around a place -/
def caS (t : Nat → Nat) (n at' a : Nat) : Nat → Nat
  | 0 => 0
  | m + 1 => caS t n at' a m + (if dgt t (a + m) ∧ cnC t n (a + m) ∧ at' < enE t n (a + m) then 1 else 0)
abbrev PO3 : Type := Nat × Nat × Nat
/-- parts, the deepest, members, with a place more -/
def po1 (t : Nat → Nat) (n i : Nat) (S : PO3) : PO3 := if dgt t i then (S.1 + 1, max S.2.1 (caS t n i 0 i + (if cnC t n i then 1 else 0)), S.2.2 ||| (if cnC t n i then 0 else 1 * 2 ^ (t i - 48))) else S
def poR (t : Nat → Nat) (n a : Nat) (S : PO3) : Nat → PO3
  | 0 => S
  | m + 1 => po1 t n (a + m) (poR t n a S m)
theorem enO_s {t : Nat → Nat} {u e d : Nat} (h : 0 < stp d (t e)) : enO t (u + 1) e d = enO t u (e + 1) (stp d (t e)) := if_pos h
theorem enO_h {t : Nat → Nat} {u e d : Nat} (h : ¬ 0 < stp d (t e)) : enO t (u + 1) e d = some (e + 1) := if_neg h
theorem Seg.esc {t : Nat → Nat} {k : Nat} : ∀ {q f l : Nat} {L : List Att}, Seg t k q f l L → ∀ (d u : Nat), 0 < d → enO t (l + u) f d = enO t u (f + l) d := by
  induction k with
  | zero => intro q f l L h; exact h.elim
  | succ k ih =>
    intro q f l L h d u hd
    rcases h with ⟨rfl, h⟩ | ⟨h2, h⟩
    · rcases h with ⟨rfl, h3, h4, -⟩ | ⟨l1, B, rfl, h3, h4, h5, -⟩ | ⟨l1, B, rfl, h3, h4, h5, h6, h7, h8, h9, -⟩
      · have e : stp d (t f) = d := stp_0 (by omega) (by omega)
        rw [show 1 + u = u + 1 by omega, enO_s (by omega), e]
      · have i1 := ih h4 (d + 1) (1 + u) (by omega)
        have e1 : enO t (1 + u) (f + 1 + l1) (d + 1) = enO t u (f + (l1 + 2)) d := by
          rw [show 1 + u = u + 1 by omega, enO_s (by rw [h5, stp_c]; omega), h5, stp_c, show f + 1 + l1 + 1 = f + (l1 + 2) by omega]
          rfl
        rw [show l1 + 2 + u = (l1 + (1 + u)) + 1 by omega, enO_s (by rw [h3, stp_o]; omega), h3, stp_o, i1, e1]
      · have i1 := ih h8 (d + 1) (1 + u) (by omega)
        have e1 : enO t (1 + u) (f + 4 + l1) (d + 1) = enO t u (f + (l1 + 5)) d := by
          rw [show 1 + u = u + 1 by omega, enO_s (by rw [h9, stp_c]; omega), h9, stp_c, show f + 4 + l1 + 1 = f + (l1 + 5) by omega]
          rfl
        have s0 : stp d (t f) = d := stp_0 (by omega) (by omega)
        have s1 : stp d (t (f + 1)) = d := stp_0 (by omega) (by omega)
        have e2 : t (f + 1 + 1) = 102 := by rw [show f + 1 + 1 = f + 2 by omega]; exact h6
        have e3 : t (f + 1 + 1 + 1) = 40 := by rw [show f + 1 + 1 + 1 = f + 3 by omega]; exact h7
        have s2 : stp d (t (f + 1 + 1)) = d := stp_0 (by omega) (by omega)
        rw [show l1 + 5 + u = (l1 + (1 + u)) + 1 + 1 + 1 + 1 by omega, enO_s (by omega), s0, enO_s (by omega), s1, enO_s (by omega), s2, enO_s (by rw [e3, stp_o]; omega), e3, stp_o, show f + 1 + 1 + 1 + 1 = f + 4 by omega, i1, e1]
    · rcases h with ⟨B, -, h⟩ | ⟨l1, l2, B, L', rfl, -, h3, h4, h5⟩
      · exact ih h d u hd
      · have i2 := ih h5 d u hd
        have i1 := ih h3 d (1 + (l2 + u)) hd
        have sn := sepq_n q
        have e : stp d (t (f + l1)) = d := by rw [h4]; exact stp_0 sn.1 sn.2.1
        have e1 : enO t (1 + (l2 + u)) (f + l1) d = enO t u (f + (l1 + 1 + l2)) d := by
          rw [show 1 + (l2 + u) = (l2 + u) + 1 by omega, enO_s (by omega), e, i2, show f + l1 + 1 + l2 = f + (l1 + 1 + l2) by omega]
        rw [show l1 + 1 + l2 + u = l1 + (1 + (l2 + u)) by omega, i1, e1]
/-- a count: its bracket is closed where it ends -/
theorem Seg.one {t : Nat → Nat} {k f l1 n : Nat} {B : List Att} (h7 : t (f + 3) = 40) (h8 : Seg t k 3 (f + 4) l1 B) (h9 : t (f + 4 + l1) = 41) (hn : f + (l1 + 5) ≤ n) : enO t (n - (f + 3)) (f + 3) 0 = some (f + (l1 + 5)) := by
  obtain ⟨u, rfl⟩ : ∃ u, n = f + (l1 + 5) + u := ⟨n - (f + (l1 + 5)), by omega⟩
  have i1 := h8.esc 1 (1 + u) (by decide)
  have e1 : enO t (1 + u) (f + 4 + l1) 1 = some (f + (l1 + 5)) := by
    rw [show 1 + u = u + 1 by omega, enO_h (by rw [h9, stp_c]; decide), show f + 4 + l1 + 1 = f + (l1 + 5) by omega]
  rw [show f + (l1 + 5) + u - (f + 3) = (l1 + (1 + u)) + 1 by omega, enO_s (by rw [h7, stp_o]; decide), h7, stp_o, show f + 3 + 1 = f + 4 by omega, i1, e1]
/-- every count's bracket is closed within the segment -/
theorem Seg.ens {t : Nat → Nat} {k n : Nat} : ∀ {q f l : Nat} {L : List Att}, Seg t k q f l L → f + l ≤ n → ¬ (f + l < n ∧ t (f + l) = 111) → ∀ j, f ≤ j → j < f + l → dgt t j → cnC t n j → t (j + 3) = 40 ∧ ∃ e, enO t (n - (j + 3)) (j + 3) 0 = some e ∧ e ≤ f + l := by
  induction k with
  | zero => intro q f l L h; exact h.elim
  | succ k ih =>
    intro q f l L h hn hx j h1 h2 hd hc
    rcases h with ⟨rfl, h⟩ | ⟨hq, h⟩
    · rcases h with ⟨rfl, h3, h4, -⟩ | ⟨l1, B, rfl, h3, h4, h5, -⟩ | ⟨l1, B, rfl, h3, h4, h5, h6, h7, h8, h9, -⟩
      · obtain rfl : j = f := by omega
        exact absurd hc hx
      · by_cases c1 : j = f
        · subst c1
          exact absurd hd (by omega)
        · by_cases c2 : j = f + 1 + l1
          · subst c2
            exact absurd hd (by omega)
          · obtain ⟨z1, e, z2, z3⟩ := ih h4 (by omega) (by omega) j (by omega) (by omega) hd hc
            exact ⟨z1, e, z2, by omega⟩
      · by_cases c1 : j = f
        · subst c1
          exact ⟨h7, _, Seg.one h7 h8 h9 (by omega), by omega⟩
        · by_cases c2 : j < f + 4
          · rcases (show j = f + 1 ∨ j = f + 2 ∨ j = f + 3 by omega) with rfl | rfl | rfl <;> exact absurd hd (by omega)
          · by_cases c3 : j = f + 4 + l1
            · subst c3
              exact absurd hd (by omega)
            · obtain ⟨z1, e, z2, z3⟩ := ih h8 (by omega) (by omega) j (by omega) (by omega) hd hc
              exact ⟨z1, e, z2, by omega⟩
    · rcases h with ⟨B, -, h⟩ | ⟨l1, l2, B, L', rfl, -, h3, h4, h5⟩
      · exact ih h hn hx j h1 h2 hd hc
      · have sn := sepq_n q
        by_cases c1 : j < f + l1
        · obtain ⟨z1, e, z2, z3⟩ := ih h3 (by omega) (fun z => sn.2.2.2 (h4.symm.trans z.2)) j (by omega) (by omega) hd hc
          exact ⟨z1, e, z2, by omega⟩
        · by_cases c2 : j = f + l1
          · subst c2
            exact absurd (h4 ▸ hd) sn.2.2.1
          · obtain ⟨z1, e, z2, z3⟩ := ih h5 (by omega) (by rw [show f + l1 + 1 + l2 = f + (l1 + 1 + l2) by omega]; exact hx) j (by omega) (by omega) hd hc
            exact ⟨z1, e, z2, by omega⟩
theorem caS_add (t : Nat → Nat) (n at' a m m2 : Nat) : caS t n at' a (m + m2) = caS t n at' a m + caS t n at' (a + m) m2 := by
  induction m2 with
  | zero => rfl
  | succ m2 ih =>
    rw [show m + (m2 + 1) = m + m2 + 1 by omega, caS, caS, ih, show a + (m + m2) = a + m + m2 by omega]
    omega
theorem caS_1 (t : Nat → Nat) (n at' a : Nat) (h : ¬ (dgt t a ∧ cnC t n a ∧ at' < enE t n a)) : caS t n at' a 1 = 0 := by
  rw [caS, caS, Nat.add_zero, if_neg h]
theorem caS_0 (t : Nat → Nat) (n at' a m : Nat) (h : ∀ j, a ≤ j → j < a + m → ¬ (dgt t j ∧ cnC t n j ∧ at' < enE t n j)) : caS t n at' a m = 0 := by
  induction m with
  | zero => rfl
  | succ m ih => rw [caS, ih (fun j h1 h2 => h j h1 (by omega)), if_neg (h (a + m) (by omega) (by omega))]
/-- behind a segment none of its counts lies around -/
theorem Seg.out {t : Nat → Nat} {k n q f l : Nat} {L : List Att} (h : Seg t k q f l L) (hn : f + l ≤ n) (hx : ¬ (f + l < n ∧ t (f + l) = 111)) (at' : Nat) (ha : f + l ≤ at') : caS t n at' f l = 0 := by
  refine caS_0 _ _ _ _ _ (fun j h1 h2 z => ?_)
  obtain ⟨-, e, z2, z3⟩ := h.ens hn hx j h1 h2 z.1 z.2.1
  have z4 := z.2.2
  unfold enE at z4
  rw [z2] at z4
  have z5 : at' < e := z4
  omega
theorem poR_add (t : Nat → Nat) (n a : Nat) (S : PO3) (m m2 : Nat) : poR t n a S (m + m2) = poR t n (a + m) (poR t n a S m) m2 := by
  induction m2 with
  | zero => rfl
  | succ m2 ih => rw [show m + (m2 + 1) = m + m2 + 1 by omega, poR, poR, ih, show a + (m + m2) = a + m + m2 by omega]
theorem poR_1 (t : Nat → Nat) (n a : Nat) (S : PO3) : poR t n a S 1 = po1 t n a S := rfl
theorem po1_n {t : Nat → Nat} {n i : Nat} {S : PO3} (h : ¬ dgt t i) : po1 t n i S = S := if_neg h
def poX (c : Nat) (L : List Att) (S : PO3) : PO3 := (S.1 + sizs L, max S.2.1 (c + deps L), S.2.2 ||| mems L)
theorem mkS_1 {q : Nat} {B : List Att} (hn : B ≠ []) (hq : q = 0 ∨ q = 3 ∨ B.length = 1) : aS (mkS q B) = sizs B ∧ aD (mkS q B) = deps B ∧ aM (mkS q B) = mems B := by
  match B, hn with
  | [A], _ =>
    have e : mkS q [A] = A := by
      unfold mkS
      split
      · rfl
      · split <;> rfl
    rw [e]
    refine ⟨?_, ?_, ?_⟩
    · show aS A = aS A + 0; omega
    · show aD A = max (aD A) 0; omega
    · show aM A = aM A ||| 0; rw [Nat.or_zero]
  | A :: C :: L, _ =>
    have h2 : q = 0 ∨ q = 3 := by
      rcases hq with h | h | h
      · exact Or.inl h
      · exact Or.inr h
      · simp at h
    rcases h2 with rfl | rfl <;> exact ⟨rfl, rfl, rfl⟩
theorem Seg.q2 {t : Nat → Nat} {k f l : Nat} {L : List Att} (h : Seg t k 2 f l L) : L.length = 1 := by
  cases k with
  | zero => exact h.elim
  | succ k =>
    rcases h with ⟨-, h⟩ | ⟨h2, -⟩
    · rcases h with ⟨-, -, -, rfl⟩ | ⟨l1, B, -, -, -, -, rfl⟩ | ⟨l1, B, -, -, -, -, -, -, -, -, rfl⟩ <;> rfl
    · exact absurd rfl h2
theorem any_1 {B : List Att} (hn : B ≠ []) : aS (mkAny B) = sizs B ∧ aD (mkAny B) = deps B ∧ aM (mkAny B) = mems B := mkS_1 (q := 3) hn (Or.inr (Or.inl rfl))
theorem sizs_1 (A : Att) : sizs [A] = aS A := rfl
theorem deps_1 (A : Att) : deps [A] = aD A := Nat.max_zero _
theorem mems_1 (A : Att) : mems [A] = aM A := Nat.or_zero _
/-- what a segment adds -/
theorem Seg.po {t : Nat → Nat} {k n : Nat} : ∀ {q f l : Nat} {L : List Att}, (q = 0 ∨ q = 1 ∨ q = 2 ∨ q = 3) → Seg t k q f l L → f + l ≤ n → ¬ (f + l < n ∧ t (f + l) = 111) → ∀ c, (∀ at', f ≤ at' → at' < f + l → caS t n at' 0 f = c) → ∀ S, poR t n f S l = poX c L S := by
  induction k with
  | zero => intro q f l L _ h; exact h.elim
  | succ k ih =>
    intro q f l L hq03 h hn hx c hc S
    rcases h with ⟨rfl, h⟩ | ⟨hq, h⟩
    · rcases h with ⟨rfl, h3, h4, rfl⟩ | ⟨l1, B, rfl, h3, h4, h5, rfl⟩ | ⟨l1, B, rfl, h3, h4, h5, h6, h7, h8, h9, rfl⟩
      · have e0 := hc f (by omega) (by omega)
        rw [poR_1]
        unfold po1 poX
        rw [if_pos (by omega), e0, if_neg hx, if_neg hx, sizs_1, deps_1, mems_1]
        show (S.1 + 1, max S.2.1 (c + 0), S.2.2 ||| 1 * 2 ^ (t f - 48)) = (S.1 + 1, max S.2.1 (c + 0), S.2.2 ||| 2 ^ (t f - 48))
        rw [Nat.one_mul]
      · obtain ⟨a1, a2, a3⟩ := any_1 h4.ne
        have i1 := ih (Or.inl rfl) h4 (by omega) (by omega) c (fun at' z1 z2 => by
          rw [caS_add, hc at' (by omega) (by omega), Nat.zero_add, caS_1 _ _ _ _ (fun z => by have := z.1; omega), Nat.add_zero]) S
        rw [show l1 + 2 = 1 + (l1 + 1) by omega, poR_add, poR_1, po1_n (by omega), poR_add, i1, poR_1, po1_n (by omega)]
        unfold poX
        rw [sizs_1, deps_1, mems_1, a1, a2, a3]
      · have hcn : cnC t n f := ⟨by omega, h5⟩
        have e0 := hc f (by omega) (by omega)
        have hen : enE t n f = f + (l1 + 5) := by
          unfold enE
          rw [Seg.one h7 h8 h9 hn]
          rfl
        have hS1 : po1 t n f S = (S.1 + 1, max S.2.1 (c + 1), S.2.2 ||| 0) := by
          unfold po1
          rw [if_pos (by omega), e0, if_pos hcn, if_pos hcn]
        have hz : ∀ at', f + 4 ≤ at' → at' < f + 4 + l1 → caS t n at' 0 (f + 4) = c + 1 := fun at' z1 z2 => by
          rw [caS_add, hc at' (by omega) (by omega), Nat.zero_add, show (4 : Nat) = 1 + 3 by omega, caS_add, caS_0 t n at' (f + 1) 3 (fun j y1 y2 y3 => by
            have y4 := y3.1
            rcases (show j = f + 1 ∨ j = f + 2 ∨ j = f + 3 by omega) with rfl | rfl | rfl <;> omega)]
          have e9 : caS t n at' f 1 = 1 := by
            show 0 + (if dgt t f ∧ cnC t n f ∧ at' < enE t n f then 1 else 0) = 1
            rw [if_pos ⟨by omega, hcn, by rw [hen]; omega⟩]
          rw [e9]
        have i1 := ih (Or.inr (Or.inr (Or.inr rfl))) h8 (by omega) (by omega) (c + 1) hz (S.1 + 1, max S.2.1 (c + 1), S.2.2 ||| 0)
        rw [show l1 + 5 = 1 + (1 + (1 + (1 + (l1 + 1)))) by omega, poR_add, poR_1, hS1, poR_add, poR_1, po1_n (by omega), poR_add, poR_1, po1_n (by rw [show f + 1 + 1 = f + 2 by omega]; omega), poR_add, poR_1, po1_n (by rw [show f + 1 + 1 + 1 = f + 3 by omega]; omega), poR_add, show f + 1 + 1 + 1 + 1 = f + 4 by omega, i1, poR_1, po1_n (by omega)]
        unfold poX
        rw [sizs_1, deps_1, mems_1]
        show (S.1 + 1 + sizs B, max (max S.2.1 (c + 1)) (c + 1 + deps B), S.2.2 ||| 0 ||| mems B) = (S.1 + (1 + sizs B), max S.2.1 (c + (deps B + 1)), S.2.2 ||| mems B)
        rw [Nat.or_zero, Nat.add_assoc, show max (max S.2.1 (c + 1)) (c + 1 + deps B) = max S.2.1 (c + (deps B + 1)) by omega]
    · have hs : subq q = 0 ∨ subq q = 1 ∨ subq q = 2 ∨ subq q = 3 := by unfold subq; split <;> omega
      have hm : ∀ {f l : Nat} {B : List Att}, Seg t k (subq q) f l B → aS (mkS q B) = sizs B ∧ aD (mkS q B) = deps B ∧ aM (mkS q B) = mems B := fun {f l B} h => mkS_1 h.ne (by
        by_cases h1 : q = 1
        · subst h1
          exact Or.inr (Or.inr h.q2)
        · omega)
      rcases h with ⟨B, rfl, h⟩ | ⟨l1, l2, B, L', rfl, rfl, h3, h4, h5⟩
      · obtain ⟨a1, a2, a3⟩ := hm h
        rw [ih hs h hn hx c hc S]
        unfold poX
        rw [sizs_1, deps_1, mems_1, a1, a2, a3]
      · have sn := sepq_n q
        obtain ⟨a1, a2, a3⟩ := hm h3
        have hx1 : ¬ (f + l1 < n ∧ t (f + l1) = 111) := fun z => sn.2.2.2 (h4.symm.trans z.2)
        have hd1 : ¬ dgt t (f + l1) := by rw [show dgt t (f + l1) = (48 ≤ t (f + l1) ∧ t (f + l1) ≤ 57) from rfl, h4]; exact sn.2.2.1
        have i1 := ih hs h3 (by omega) hx1 c (fun at' z1 z2 => hc at' z1 (by omega)) S
        have i2 := ih hq03 h5 (by omega) (by rw [show f + l1 + 1 + l2 = f + (l1 + 1 + l2) by omega]; exact hx) c (fun at' z1 z2 => by
          rw [caS_add, caS_add, hc at' (by omega) (by omega), Nat.zero_add, Nat.zero_add, h3.out (by omega) hx1 at' (by omega), caS_1 _ _ _ _ (fun z => hd1 z.1)]
          exact rfl) (poX c B S)
        rw [show l1 + 1 + l2 = l1 + (1 + l2) by omega, poR_add, i1, poR_add, poR_1, po1_n hd1, i2]
        unfold poX
        show (S.1 + sizs B + sizs L', max (max S.2.1 (c + deps B)) (c + deps L'), S.2.2 ||| mems B ||| mems L') = (S.1 + (aS (mkS q B) + sizs L'), max S.2.1 (c + max (aD (mkS q B)) (deps L')), S.2.2 ||| (aM (mkS q B) ||| mems L'))
        rw [a1, a2, a3, Nat.add_assoc, Nat.or_assoc, show max (max S.2.1 (c + deps B)) (c + deps L') = max S.2.1 (c + max (deps B) (deps L')) by omega]
/-- the whole text -/
theorem Seg.whole {t : Nat → Nat} {k n : Nat} {L : List Att} (h : Seg t k 0 0 n L) : poR t n 0 (0, 0, 0) n = (aS (mkAny L), aD (mkAny L), aM (mkAny L)) := by
  obtain ⟨a1, a2, a3⟩ := any_1 h.ne
  rw [h.po (n := n) (Or.inl rfl) (by omega) (by omega) 0 (fun at' _ _ => rfl) (0, 0, 0)]
  unfold poX
  rw [a1, a2, a3]
  show (0 + sizs L, max 0 (0 + deps L), 0 ||| mems L) = _
  rw [Nat.zero_add, Nat.zero_add, Nat.zero_or, show max 0 (deps L) = deps L by omega]

