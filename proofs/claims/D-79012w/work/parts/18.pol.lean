/-! POLICIES AS TEXTS: attributes of a policy, what a reader makes of a text, segments of a text -/
set_option maxRecDepth 100000
/-- kind (0 a member, 1 any, 2 all, 3 a count), whether it holds, members, size, depth, text -/
abbrev Att : Type := Nat × (Nat → Nat) × Nat × Nat × Nat × List Nat
def aK (A : Att) : Nat := A.1
def aE (A : Att) : Nat → Nat := A.2.1
def aM (A : Att) : Nat := A.2.2.1
def aS (A : Att) : Nat := A.2.2.2.1
def aD (A : Att) : Nat := A.2.2.2.2.1
def aT (A : Att) : List Nat := A.2.2.2.2.2
def cnt : List Att → Nat → Nat
  | [], _ => 0
  | A :: L, x => aE A x + cnt L x
def mems : List Att → Nat
  | [] => 0
  | A :: L => aM A ||| mems L
def sizs : List Att → Nat
  | [] => 0
  | A :: L => aS A + sizs L
def deps : List Att → Nat
  | [] => 0
  | A :: L => max (aD A) (deps L)
/-- a part's text, where it is one of several (1) or not -/
def txA (enc : Nat) (A : Att) : List Nat := if enc = 1 ∧ aK A = 1 then [40] ++ aT A ++ [41] else aT A
def txL (sep enc : Nat) : List Att → List Nat
  | [] => []
  | [A] => txA enc A
  | A :: B :: L => txA enc A ++ sep :: txL sep enc (B :: L)
def attOne (m : Nat) : Att := (0, fun x => x / 2 ^ m % 2, 2 ^ m, 1, 0, [48 + m])
def attAny (L : List Att) : Att := (1, fun x => if cnt L x = 0 then 0 else 1, mems L, sizs L, deps L, txL 124 0 L)
def attAll (L : List Att) : Att := (2, fun x => if cnt L x = L.length then 1 else 0, mems L, sizs L, deps L, txL 38 1 L)
def attSome (c : Nat) (L : List Att) : Att := (3, fun x => if c ≤ cnt L x then 1 else 0, mems L, 1 + sizs L, deps L + 1, [48 + c, 111, 102, 40] ++ txL 44 0 L ++ [41])
def mkAny : List Att → Att
  | [A] => A
  | L => attAny L
def mkAll : List Att → Att
  | [A] => A
  | L => attAll L
def mkS (q : Nat) (B : List Att) : Att := if q = 0 then mkAll B else if q = 1 then B.headD (attOne 0) else mkAny B
def sepq (q : Nat) : Nat := if q = 0 then 124 else if q = 1 then 38 else 44
def subq (q : Nat) : Nat := if q = 3 then 0 else q + 1
/-- reading (0 alls with bars, 1 parts with ands, 2 a part, 3 policies with commas): whether it can (1), where it comes to, what it is -/
def prs (h : Nat → Nat) : Nat → Nat → Nat → Nat × Nat × List Att
  | 0, _, a => (0, a, [])
  | k + 1, q, a =>
    if q = 2 then
      if h a = 40 then
        (if (prs h k 0 (a + 1)).1 = 1 then (if h (prs h k 0 (a + 1)).2.1 = 41 then (1, (prs h k 0 (a + 1)).2.1 + 1, [mkAny (prs h k 0 (a + 1)).2.2]) else (0, (prs h k 0 (a + 1)).2.1, [])) else (0, (prs h k 0 (a + 1)).2.1, []))
      else if ¬ (48 ≤ h a ∧ h a ≤ 57) then (0, a, [])
      else if ¬ h (a + 1) = 111 ∨ h a = 48 then (if h a ≤ 55 then (1, a + 1, [attOne (h a - 48)]) else (0, a + 1, []))
      else if ¬ h (a + 2) = 102 then (0, a + 2, [])
      else if ¬ h (a + 3) = 40 then (0, a + 3, [])
      else (if (prs h k 3 (a + 4)).1 = 1 then (if h (prs h k 3 (a + 4)).2.1 = 41 then (1, (prs h k 3 (a + 4)).2.1 + 1, [attSome (h a - 48) (prs h k 3 (a + 4)).2.2]) else (0, (prs h k 3 (a + 4)).2.1, [])) else (0, (prs h k 3 (a + 4)).2.1, []))
    else
      if (prs h k (subq q) a).1 = 1 then
        (if h (prs h k (subq q) a).2.1 = sepq q then
          (if (prs h k q ((prs h k (subq q) a).2.1 + 1)).1 = 1 then (1, (prs h k q ((prs h k (subq q) a).2.1 + 1)).2.1, mkS q (prs h k (subq q) a).2.2 :: (prs h k q ((prs h k (subq q) a).2.1 + 1)).2.2) else (0, (prs h k q ((prs h k (subq q) a).2.1 + 1)).2.1, []))
        else (1, (prs h k (subq q) a).2.1, [mkS q (prs h k (subq q) a).2.2]))
      else (0, (prs h k (subq q) a).2.1, [])
/-- a segment of a text, from f on, l signs long -/
def Seg (t : Nat → Nat) : Nat → Nat → Nat → Nat → List Att → Prop
  | 0, _, _, _, _ => False
  | k + 1, q, f, l, L =>
    (q = 2 ∧ ((l = 1 ∧ 48 ≤ t f ∧ t f ≤ 55 ∧ L = [attOne (t f - 48)]) ∨
      (∃ l1 B, l = l1 + 2 ∧ t f = 40 ∧ Seg t k 0 (f + 1) l1 B ∧ t (f + 1 + l1) = 41 ∧ L = [mkAny B]) ∨
      (∃ l1 B, l = l1 + 5 ∧ 49 ≤ t f ∧ t f ≤ 57 ∧ t (f + 1) = 111 ∧ t (f + 2) = 102 ∧ t (f + 3) = 40 ∧ Seg t k 3 (f + 4) l1 B ∧ t (f + 4 + l1) = 41 ∧ L = [attSome (t f - 48) B]))) ∨
    (¬ q = 2 ∧ ((∃ B, L = [mkS q B] ∧ Seg t k (subq q) f l B) ∨
      (∃ l1 l2 B L', l = l1 + 1 + l2 ∧ L = mkS q B :: L' ∧ Seg t k (subq q) f l1 B ∧ t (f + l1) = sepq q ∧ Seg t k q (f + l1 + 1) l2 L')))
theorem sepq_n (q : Nat) : sepq q ≠ 40 ∧ sepq q ≠ 41 ∧ ¬ (48 ≤ sepq q ∧ sepq q ≤ 57) ∧ sepq q ≠ 111 := by
  unfold sepq
  repeat' split
  all_goals decide
def stp (d c : Nat) : Nat := if c = 40 then d + 1 else if c = 41 then d - 1 else d
theorem stp_0 {d c : Nat} (h1 : c ≠ 40) (h2 : c ≠ 41) : stp d c = d := by
  unfold stp
  rw [if_neg h1, if_neg h2]
theorem stp_o {d : Nat} : stp d 40 = d + 1 := rfl
theorem stp_c {d : Nat} : stp d 41 = d - 1 := rfl
/-- the next place where c stands outside of brackets -/
def nxF (t : Nat → Nat) (c : Nat) : Nat → Nat → Nat → Nat
  | 0, k, _ => k
  | u + 1, k, d => if d = 0 ∧ t k = c then k else nxF t c u (k + 1) (stp d (t k))
def balP (t : Nat → Nat) : Nat → Nat → Nat → Prop
  | 0, _, _ => True
  | u + 1, k, d => (t k = 41 → 0 < d) ∧ balP t u (k + 1) (stp d (t k))
theorem nxF_le (t : Nat → Nat) (c u k d : Nat) : k ≤ nxF t c u k d ∧ nxF t c u k d ≤ k + u := by
  induction u generalizing k d with
  | zero => exact ⟨Nat.le_refl _, Nat.le_refl _⟩
  | succ u ih =>
    rw [nxF]
    split
    · omega
    · have := ih (k + 1) (stp d (t k))
      omega
theorem nxF_s {t : Nat → Nat} {c u k d : Nat} (h : ¬ (d = 0 ∧ t k = c)) : nxF t c (u + 1) k d = nxF t c u (k + 1) (stp d (t k)) := if_neg h
theorem nxF_h {t : Nat → Nat} {c u k : Nat} (h : t k = c) : nxF t c (u + 1) k 0 = k := if_pos ⟨rfl, h⟩
/-- a sign is not seen at depth 0 of a segment of kind q -/
def hid (q c : Nat) : Prop := q = 2 ∨ (q = 1 ∧ ¬ c = 38) ∨ (q = 0 ∧ c = 44)
abbrev isSep (c : Nat) : Prop := c = 38 ∨ c = 44 ∨ c = 124
theorem hid.sub {q c : Nat} (h : hid q c) (h2 : ¬ q = 2) : hid (subq q) c := by
  unfold hid at *
  unfold subq
  split <;> omega
theorem hid.sep {q c : Nat} (h : hid q c) (h2 : ¬ q = 2) : ¬ sepq q = c := by
  unfold hid at h
  unfold sepq
  split
  · omega
  · split <;> omega
theorem Seg.scan {t : Nat → Nat} {k : Nat} : ∀ {q f l : Nat} {L : List Att}, Seg t k q f l L → ∀ (c d u : Nat), isSep c → (0 < d ∨ hid q c) → nxF t c (l + u) f d = nxF t c u (f + l) d := by
  induction k with
  | zero => intro q f l L h; exact h.elim
  | succ k ih =>
    intro q f l L h c d u hc hd
    rcases h with ⟨rfl, h⟩ | ⟨h2, h⟩
    · rcases h with ⟨rfl, h3, h4, -⟩ | ⟨l1, B, rfl, h3, h4, h5, -⟩ | ⟨l1, B, rfl, h3, h4, h5, h6, h7, h8, h9, -⟩
      · have e : stp d (t f) = d := stp_0 (by omega) (by omega)
        rw [show 1 + u = u + 1 by omega, nxF_s (by omega), e]
      · have i1 := ih h4 c (d + 1) (1 + u) hc (Or.inl (by omega))
        have e1 : nxF t c (1 + u) (f + 1 + l1) (d + 1) = nxF t c u (f + (l1 + 2)) d := by
          rw [show 1 + u = u + 1 by omega, nxF_s (by omega), h5, stp_c, show f + 1 + l1 + 1 = f + (l1 + 2) by omega]
          rfl
        rw [show l1 + 2 + u = (l1 + (1 + u)) + 1 by omega, nxF_s (by omega), h3, stp_o, i1, e1]
      · have i1 := ih h8 c (d + 1) (1 + u) hc (Or.inl (by omega))
        have e1 : nxF t c (1 + u) (f + 4 + l1) (d + 1) = nxF t c u (f + (l1 + 5)) d := by
          rw [show 1 + u = u + 1 by omega, nxF_s (by omega), h9, stp_c, show f + 4 + l1 + 1 = f + (l1 + 5) by omega]
          rfl
        have s0 : stp d (t f) = d := stp_0 (by omega) (by omega)
        have s1 : stp d (t (f + 1)) = d := stp_0 (by omega) (by omega)
        have e2 : t (f + 1 + 1) = 102 := by rw [show f + 1 + 1 = f + 2 by omega]; exact h6
        have e3 : t (f + 1 + 1 + 1) = 40 := by rw [show f + 1 + 1 + 1 = f + 3 by omega]; exact h7
        have s2 : stp d (t (f + 1 + 1)) = d := stp_0 (by omega) (by omega)
        rw [show l1 + 5 + u = (l1 + (1 + u)) + 1 + 1 + 1 + 1 by omega, nxF_s (by omega), s0, nxF_s (by omega), s1, nxF_s (by omega), s2, nxF_s (by omega), e3, stp_o, show f + 1 + 1 + 1 + 1 = f + 4 by omega, i1, e1]
    · rcases h with ⟨B, -, h⟩ | ⟨l1, l2, B, L', rfl, -, h3, h4, h5⟩
      · exact ih h c d u hc (hd.imp id (fun z => z.sub h2))
      · have i2 := ih h5 c d u hc hd
        have i1 := ih h3 c d (1 + (l2 + u)) hc (hd.imp id (fun z => z.sub h2))
        have sn := sepq_n q
        have e : stp d (t (f + l1)) = d := by rw [h4]; exact stp_0 sn.1 sn.2.1
        have e1 : nxF t c (1 + (l2 + u)) (f + l1) d = nxF t c u (f + (l1 + 1 + l2)) d := by
          rw [show 1 + (l2 + u) = (l2 + u) + 1 by omega, nxF_s (by rintro ⟨z1, z2⟩; rcases hd with z | z; omega; exact z.sep h2 (h4.symm.trans z2)), e, i2, show f + l1 + 1 + l2 = f + (l1 + 1 + l2) by omega]
        rw [show l1 + 1 + l2 + u = l1 + (1 + (l2 + u)) by omega, i1, e1]
theorem Seg.balu {t : Nat → Nat} {k : Nat} : ∀ {q f l : Nat} {L : List Att}, Seg t k q f l L → ∀ (d u : Nat), balP t u (f + l) d → balP t (l + u) f d := by
  induction k with
  | zero => intro q f l L h; exact h.elim
  | succ k ih =>
    intro q f l L h d u z
    rcases h with ⟨rfl, h⟩ | ⟨h2, h⟩
    · rcases h with ⟨rfl, h3, h4, -⟩ | ⟨l1, B, rfl, h3, h4, h5, -⟩ | ⟨l1, B, rfl, h3, h4, h5, h6, h7, h8, h9, -⟩
      · have e : stp d (t f) = d := stp_0 (by omega) (by omega)
        rw [show 1 + u = u + 1 by omega, balP, e]
        exact ⟨fun z => by omega, z⟩
      · have i1 := ih h4 (d + 1) (1 + u)
        rw [show l1 + 2 + u = (l1 + (1 + u)) + 1 by omega, balP, h3, stp_o]
        refine ⟨fun z => by omega, i1 ?_⟩
        rw [show 1 + u = u + 1 by omega, balP, h5, stp_c, show f + 1 + l1 + 1 = f + (l1 + 2) by omega]
        exact ⟨fun _ => by omega, z⟩
      · have i1 := ih h8 (d + 1) (1 + u)
        have s0 : stp d (t f) = d := stp_0 (by omega) (by omega)
        have s1 : stp d (t (f + 1)) = d := stp_0 (by omega) (by omega)
        have e2 : t (f + 1 + 1) = 102 := by rw [show f + 1 + 1 = f + 2 by omega]; exact h6
        have e3 : t (f + 1 + 1 + 1) = 40 := by rw [show f + 1 + 1 + 1 = f + 3 by omega]; exact h7
        have s2 : stp d (t (f + 1 + 1)) = d := stp_0 (by omega) (by omega)
        rw [show l1 + 5 + u = (l1 + (1 + u)) + 1 + 1 + 1 + 1 by omega, balP, s0, balP, s1, balP, s2, balP, e3, stp_o, show f + 1 + 1 + 1 + 1 = f + 4 by omega]
        refine ⟨fun z => by omega, fun z => by omega, fun z => by omega, fun z => by omega, i1 ?_⟩
        rw [show 1 + u = u + 1 by omega, balP, h9, stp_c, show f + 4 + l1 + 1 = f + (l1 + 5) by omega]
        exact ⟨fun _ => by omega, z⟩
    · rcases h with ⟨B, -, h⟩ | ⟨l1, l2, B, L', rfl, -, h3, h4, h5⟩
      · exact ih h d u z
      · have sn := sepq_n q
        have e : stp d (t (f + l1)) = d := by rw [h4]; exact stp_0 sn.1 sn.2.1
        have i2 := ih h5 d u (by rw [show f + l1 + 1 + l2 = f + (l1 + 1 + l2) by omega]; exact z)
        have i1 := ih h3 d (1 + (l2 + u))
        rw [show l1 + 1 + l2 + u = l1 + (1 + (l2 + u)) by omega]
        refine i1 ?_
        rw [show 1 + (l2 + u) = (l2 + u) + 1 by omega, balP, e]
        exact ⟨fun z => by rw [h4] at z; exact absurd z sn.2.1, i2⟩
theorem Seg.bal {t : Nat → Nat} {k q f l : Nat} {L : List Att} (h : Seg t k q f l L) : balP t l f 0 := h.balu 0 0 trivial
theorem Seg.pos {t : Nat → Nat} {k : Nat} : ∀ {q f l : Nat} {L : List Att}, Seg t k q f l L → 0 < l := by
  induction k with
  | zero => intro q f l L h; exact h.elim
  | succ k ih =>
    intro q f l L h
    rcases h with ⟨rfl, h⟩ | ⟨h2, h⟩
    · rcases h with ⟨rfl, -⟩ | ⟨l1, B, rfl, -⟩ | ⟨l1, B, rfl, -⟩ <;> omega
    · rcases h with ⟨B, -, h⟩ | ⟨l1, l2, B, L', rfl, -⟩
      · exact ih h
      · omega
theorem Seg.ne {t : Nat → Nat} {k q f l : Nat} {L : List Att} (h : Seg t k q f l L) : L ≠ [] := by
  cases k with
  | zero => exact h.elim
  | succ k =>
    rcases h with ⟨-, h⟩ | ⟨-, h⟩
    · rcases h with ⟨-, -, -, rfl⟩ | ⟨l1, B, -, -, -, -, rfl⟩ | ⟨l1, B, -, -, -, -, -, -, -, -, rfl⟩ <;> exact List.cons_ne_nil _ _
    · rcases h with ⟨B, rfl, -⟩ | ⟨l1, l2, B, L', -, rfl, -⟩ <;> exact List.cons_ne_nil _ _
/-- the next sign: behind the first of several, or there is none -/
theorem Seg.next0 {t : Nat → Nat} {k q f l c : Nat} {L : List Att} (h : Seg t k q f l L) (hc : isSep c) (hq : hid q c) : nxF t c l f 0 = f + l := by
  have z := h.scan c 0 0 hc (Or.inr hq)
  exact z
theorem Seg.next1 {t : Nat → Nat} {k q f l c u : Nat} {L : List Att} (h : Seg t k q f l L) (hc : isSep c) (hq : hid q c) (ht : t (f + l) = c) : nxF t c (l + 1 + u) f 0 = f + l := by
  have z := h.scan c 0 (1 + u) hc (Or.inr hq)
  rw [show l + 1 + u = l + (1 + u) by omega, z, show 1 + u = u + 1 by omega, nxF_h ht]
theorem Seg.congr {t t' : Nat → Nat} {k : Nat} : ∀ {q f l : Nat} {L : List Att}, Seg t k q f l L → (∀ i, f ≤ i → i < f + l → t' i = t i) → Seg t' k q f l L := by
  induction k with
  | zero => intro q f l L h; exact h.elim
  | succ k ih =>
    intro q f l L h e
    rcases h with ⟨rfl, h⟩ | ⟨h2, h⟩
    · refine Or.inl ⟨rfl, ?_⟩
      rcases h with ⟨rfl, h3, h4, h5⟩ | ⟨l1, B, rfl, h3, h4, h5, h6⟩ | ⟨l1, B, rfl, h3, h4, h5, h6, h7, h8, h9, h10⟩
      · have e1 := e f (by omega) (by omega)
        exact Or.inl ⟨rfl, by omega, by omega, by rw [e1]; exact h5⟩
      · exact Or.inr (Or.inl ⟨l1, B, rfl, by rw [e f (by omega) (by omega)]; exact h3, ih h4 (fun i a b => e i (by omega) (by omega)), by rw [e _ (by omega) (by omega)]; exact h5, h6⟩)
      · have e1 := e f (by omega) (by omega)
        exact Or.inr (Or.inr ⟨l1, B, rfl, by omega, by omega, by rw [e _ (by omega) (by omega)]; exact h5, by rw [e _ (by omega) (by omega)]; exact h6, by rw [e _ (by omega) (by omega)]; exact h7, ih h8 (fun i a b => e i (by omega) (by omega)), by rw [e _ (by omega) (by omega)]; exact h9, by rw [e1]; exact h10⟩)
    · refine Or.inr ⟨h2, ?_⟩
      rcases h with ⟨B, h3, h⟩ | ⟨l1, l2, B, L', rfl, h3, h4, h5, h6⟩
      · exact Or.inl ⟨B, h3, ih h e⟩
      · exact Or.inr ⟨l1, l2, B, L', rfl, h3, ih h4 (fun i a b => e i (by omega) (by omega)), by rw [e _ (by omega) (by omega)]; exact h5, ih h6 (fun i a b => e i (by omega) (by omega))⟩
theorem mkAny_1 (A : Att) : mkAny [A] = A := rfl
theorem mkAny_2 (A B : Att) (L : List Att) : mkAny (A :: B :: L) = attAny (A :: B :: L) := rfl
theorem mkAll_2 (A B : Att) (L : List Att) : mkAll (A :: B :: L) = attAll (A :: B :: L) := rfl
/-- all hold or do not: 0 or 1 -/
def le1 (L : List Att) : Prop := ∀ A ∈ L, ∀ x, aE A x ≤ 1
theorem le1_any {L : List Att} (h : le1 L) (x : Nat) : aE (mkAny L) x ≤ 1 := by
  match L, h with
  | [], _ => show (if cnt [] x = 0 then 0 else 1) ≤ 1; split <;> decide
  | [A], h => exact h A List.mem_cons_self x
  | A :: B :: L, _ => show (if cnt (A :: B :: L) x = 0 then 0 else 1) ≤ 1; split <;> decide
theorem le1_all {L : List Att} (h : le1 L) (x : Nat) : aE (mkAll L) x ≤ 1 := by
  match L, h with
  | [], _ => show (if cnt [] x = ([] : List Att).length then 1 else 0) ≤ 1; split <;> decide
  | [A], h => exact h A List.mem_cons_self x
  | A :: B :: L, _ => show (if cnt (A :: B :: L) x = (A :: B :: L).length then 1 else 0) ≤ 1; split <;> decide
theorem le1_mk {q : Nat} {L : List Att} (h : le1 L) (hn : L ≠ []) (x : Nat) : aE (mkS q L) x ≤ 1 := by
  unfold mkS
  split
  · exact le1_all h x
  · split
    · match L, h, hn with
      | A :: L, h, _ => exact h A List.mem_cons_self x
    · exact le1_any h x
theorem le1_one {A : Att} (h : ∀ x, aE A x ≤ 1) : le1 [A] := by
  intro B hB
  rcases List.mem_singleton.mp hB with rfl
  exact h
theorem Seg.le1 {t : Nat → Nat} {k : Nat} : ∀ {q f l : Nat} {L : List Att}, Seg t k q f l L → le1 L := by
  induction k with
  | zero => intro q f l L h; exact h.elim
  | succ k ih =>
    intro q f l L h
    rcases h with ⟨rfl, h⟩ | ⟨h2, h⟩
    · rcases h with ⟨-, -, -, rfl⟩ | ⟨l1, B, -, -, h, -, rfl⟩ | ⟨l1, B, -, -, -, -, -, -, -, -, rfl⟩
      · exact le1_one (fun x => by show x / 2 ^ _ % 2 ≤ 1; omega)
      · exact le1_one (le1_any (ih h))
      · exact le1_one (fun x => by show (if _ ≤ cnt B x then 1 else 0) ≤ 1; split <;> decide)
    · rcases h with ⟨B, rfl, h⟩ | ⟨l1, l2, B, L', -, rfl, h3, -, h5⟩
      · exact le1_one (le1_mk (ih h) h.ne)
      · intro A hA x
        rcases List.mem_cons.mp hA with rfl | hA
        · exact le1_mk (ih h3) h3.ne x
        · exact ih h5 A hA x
theorem cnt_le {L : List Att} (h : le1 L) (x : Nat) : cnt L x ≤ L.length := by
  induction L with
  | nil => exact Nat.le_refl _
  | cons A L ih =>
    have h1 := h A List.mem_cons_self x
    have h2 := ih (fun B hB => h B (List.mem_cons_of_mem _ hB))
    rw [cnt, List.length_cons]
    omega
theorem any_v {L : List Att} (h : le1 L) (hn : L ≠ []) (x : Nat) : aE (mkAny L) x = if cnt L x = 0 then 0 else 1 := by
  match L, h, hn with
  | [A], h, _ =>
    have h1 := h A List.mem_cons_self x
    show aE A x = if aE A x + 0 = 0 then 0 else 1
    split <;> omega
  | A :: B :: L, _, _ => rfl
theorem all_v {L : List Att} (h : le1 L) (hn : L ≠ []) (x : Nat) : aE (mkAll L) x = if cnt L x = L.length then 1 else 0 := by
  match L, h, hn with
  | [A], h, _ =>
    have h1 := h A List.mem_cons_self x
    show aE A x = if aE A x + 0 = 1 then 1 else 0
    split <;> omega
  | A :: B :: L, _, _ => rfl
/-- what the reader reads is a segment -/
theorem prs_le {t : Nat → Nat} {n : Nat} : ∀ {k q a : Nat}, a ≤ n → (prs (hrF t n) k q a).2.1 ≤ n := by
  have hz : ∀ x, hrF t n x ≠ 0 → x < n := by
    intro x hx
    unfold hrF at hx
    split at hx
    · assumption
    · exact absurd rfl hx
  intro k
  induction k with
  | zero => intro q a h; exact h
  | succ k ih =>
    intro q a h
    rw [prs]
    have z0 := hz a
    have z1 := hz (a + 1)
    have z2 := hz (a + 2)
    have z3 := hz (a + 3)
    split
    · split
      · have i := ih (q := 0) (a := a + 1) (by omega)
        have z4 := hz (prs (hrF t n) k 0 (a + 1)).2.1
        repeat' split
        all_goals first | exact i | (show _ + 1 ≤ n; omega)
      · split
        · exact h
        · split
          · split
            · show a + 1 ≤ n; omega
            · show a + 1 ≤ n; omega
          · split
            · show a + 2 ≤ n; omega
            · split
              · show a + 3 ≤ n; omega
              · have i := ih (q := 3) (a := a + 4) (by omega)
                have z4 := hz (prs (hrF t n) k 3 (a + 4)).2.1
                repeat' split
                all_goals first | exact i | (show _ + 1 ≤ n; omega)
    · have i := ih (q := subq q) (a := a) h
      have z4 := hz (prs (hrF t n) k (subq q) a).2.1
      have sn : sepq q ≠ 0 := by
        unfold sepq
        split
        · decide
        · split <;> decide
      split
      · split
        · have i2 := ih (q := q) (a := (prs (hrF t n) k (subq q) a).2.1 + 1) (by omega)
          split <;> exact i2
        · exact i
      · exact i
theorem hrF_nz {t : Nat → Nat} {n x : Nat} (h : hrF t n x ≠ 0) : x < n ∧ hrF t n x = t x := by
  unfold hrF at *
  split at h
  · rename_i hx
    exact ⟨hx, if_pos hx⟩
  · exact absurd rfl h
theorem prs_q2 {h : Nat → Nat} {k a p : Nat} {L : List Att} (e : prs h k 2 a = (1, p, L)) : L.length = 1 := by
  cases k with
  | zero => exact absurd (show (0 : Nat) = 1 from congrArg (fun o => o.1) e) (by decide)
  | succ k =>
    rw [prs, if_pos rfl] at e
    repeat' split at e
    all_goals first | (injection e with e1 e2; injection e2 with e3 e4; rw [← e4]; rfl) | (injection e with e1 e2; exact absurd e1 (by decide))
theorem prs_seg {t : Nat → Nat} {n : Nat} : ∀ {k q a p : Nat} {L : List Att}, a ≤ n → prs (hrF t n) k q a = (1, p, L) → ∃ l, p = a + l ∧ p ≤ n ∧ Seg t k q a l L := by
  intro k
  induction k with
  | zero => intro q a p L h e; exact absurd (show (0 : Nat) = 1 from congrArg (fun o => o.1) e) (by decide)
  | succ k ih =>
    intro q a p L h e
    have hle : p ≤ n := by have z := prs_le (t := t) (n := n) (k := k + 1) (q := q) (a := a) h; rw [e] at z; exact z
    rw [prs] at e
    split at e
    · rename_i hq
      subst hq
      split at e
      · rename_i ha
        have ya := hrF_nz (t := t) (n := n) (x := a) (by omega)
        obtain ⟨o, hr⟩ : ∃ o, prs (hrF t n) k 0 (a + 1) = o := ⟨_, rfl⟩
        obtain ⟨o1, o2, o3⟩ := o
        rw [hr] at e
        dsimp only at e
        split at e
        · rename_i h1
          split at e
          · rename_i h2
            injection e with e1 e2
            injection e2 with e3 e4
            subst h1
            obtain ⟨l1, e5, e6, e7⟩ := ih (q := 0) (a := a + 1) (by omega) hr
            have yb := hrF_nz (t := t) (n := n) (x := o2) (by omega)
            exact ⟨l1 + 2, by omega, hle, Or.inl ⟨rfl, Or.inr (Or.inl ⟨l1, o3, rfl, by rw [← ya.2]; exact ha, e7, by rw [← e5, ← yb.2]; exact h2, e4.symm⟩)⟩⟩
          · injection e with e1 e2
            exact absurd e1 (by decide)
        · injection e with e1 e2
          exact absurd e1 (by decide)
      · split at e
        · injection e with e1 e2
          exact absurd e1 (by decide)
        · rename_i hd
          have ya := hrF_nz (t := t) (n := n) (x := a) (by omega)
          split at e
          · split at e
            · injection e with e1 e2
              injection e2 with e3 e4
              refine ⟨1, by omega, hle, Or.inl ⟨rfl, Or.inl ⟨rfl, by omega, by omega, ?_⟩⟩⟩
              rw [← e4, ya.2]
            · injection e with e1 e2
              exact absurd e1 (by decide)
          · rename_i hc
            split at e
            · injection e with e1 e2
              exact absurd e1 (by decide)
            · rename_i hf
              split at e
              · injection e with e1 e2
                exact absurd e1 (by decide)
              · rename_i hg
                have y1 := hrF_nz (t := t) (n := n) (x := a + 1) (by omega)
                have y2 := hrF_nz (t := t) (n := n) (x := a + 2) (by omega)
                have y3 := hrF_nz (t := t) (n := n) (x := a + 3) (by omega)
                obtain ⟨o, hr⟩ : ∃ o, prs (hrF t n) k 3 (a + 4) = o := ⟨_, rfl⟩
                obtain ⟨o1, o2, o3⟩ := o
                rw [hr] at e
                dsimp only at e
                split at e
                · rename_i h1
                  split at e
                  · rename_i h2
                    injection e with e1 e2
                    injection e2 with e3 e4
                    subst h1
                    obtain ⟨l1, e5, e6, e7⟩ := ih (q := 3) (a := a + 4) (by omega) hr
                    have yb := hrF_nz (t := t) (n := n) (x := o2) (by omega)
                    refine ⟨l1 + 5, by omega, hle, Or.inl ⟨rfl, Or.inr (Or.inr ⟨l1, o3, rfl, by omega, by omega, by omega, by omega, by omega, e7, by rw [← e5, ← yb.2]; exact h2, ?_⟩)⟩⟩
                    rw [← e4, ya.2]
                  · injection e with e1 e2
                    exact absurd e1 (by decide)
                · injection e with e1 e2
                  exact absurd e1 (by decide)
    · rename_i hq
      obtain ⟨o, hr⟩ : ∃ o, prs (hrF t n) k (subq q) a = o := ⟨_, rfl⟩
      obtain ⟨o1, o2, o3⟩ := o
      rw [hr] at e
      dsimp only at e
      split at e
      · rename_i h1
        subst h1
        obtain ⟨l1, e5, e6, e7⟩ := ih (q := subq q) (a := a) h hr
        split at e
        · rename_i h2
          have sn : sepq q ≠ 0 := by
            unfold sepq
            split
            · decide
            · split <;> decide
          have yb := hrF_nz (t := t) (n := n) (x := o2) (by omega)
          obtain ⟨u, hu⟩ : ∃ u, prs (hrF t n) k q (o2 + 1) = u := ⟨_, rfl⟩
          obtain ⟨u1, u2, u3⟩ := u
          rw [hu] at e
          dsimp only at e
          split at e
          · rename_i h3
            subst h3
            injection e with e1 e2
            injection e2 with e3 e4
            obtain ⟨l2, e8, e9, e10⟩ := ih (q := q) (a := o2 + 1) (by omega) hu
            exact ⟨l1 + 1 + l2, by omega, hle, Or.inr ⟨hq, Or.inr ⟨l1, l2, o3, u3, rfl, e4.symm, e7, by rw [← e5, ← yb.2]; exact h2, by rw [← e5]; exact e10⟩⟩⟩
          · injection e with e1 e2
            exact absurd e1 (by decide)
        · injection e with e1 e2
          injection e2 with e3 e4
          exact ⟨l1, by omega, hle, Or.inr ⟨hq, Or.inl ⟨o3, e4.symm, e7⟩⟩⟩
      · injection e with e1 e2
        exact absurd e1 (by decide)
/-- the reader reads no further than the signs that are there -/
theorem hrF_congr {t t' : Nat → Nat} {n : Nat} (h : ∀ i, i < n → t' i = t i) : hrF t' n = hrF t n := by
  funext x
  unfold hrF
  split
  · rename_i hx
    exact h x hx
  · rfl
/-- no more parts than signs -/
theorem Seg.many {t : Nat → Nat} {k : Nat} : ∀ {q f l : Nat} {L : List Att}, Seg t k q f l L → L.length ≤ l := by
  induction k with
  | zero => intro q f l L h; exact h.elim
  | succ k ih =>
    intro q f l L h
    have hp := h.pos
    rcases h with ⟨rfl, h⟩ | ⟨h2, h⟩
    · rcases h with ⟨-, -, -, rfl⟩ | ⟨l1, B, -, -, -, -, rfl⟩ | ⟨l1, B, -, -, -, -, -, -, -, -, rfl⟩ <;> exact hp
    · rcases h with ⟨B, rfl, -⟩ | ⟨l1, l2, B, L', rfl, rfl, h3, -, h5⟩
      · exact hp
      · have := ih h5
        rw [List.length_cons]
        omega
theorem prs_01 (h : Nat → Nat) (k q a : Nat) : (prs h k q a).1 ≤ 1 := by
  cases k with
  | zero => exact Nat.zero_le _
  | succ k =>
    rw [prs]
    repeat' split
    all_goals first | exact Nat.le_refl _ | exact Nat.zero_le _
theorem prs_ge (h : Nat → Nat) : ∀ (k q a : Nat), a ≤ (prs h k q a).2.1 := by
  intro k
  induction k with
  | zero => intro q a; exact Nat.le_refl _
  | succ k ih =>
    intro q a
    have i0 := ih 0 (a + 1)
    have i3 := ih 3 (a + 4)
    have i1 := ih (subq q) a
    have i2 := ih q ((prs h k (subq q) a).2.1 + 1)
    rw [prs]
    repeat' split
    all_goals (dsimp only; omega)
/-- behind what was read: the next one, or the end -/
def tl (h : Nat → Nat) (k q r p : Nat) : Nat × Nat := if r = 1 ∧ h p = sepq q then ((prs h k q (p + 1)).1, (prs h k q (p + 1)).2.1) else (r, p)
theorem prs_tl (h : Nat → Nat) (k q a : Nat) (hq : ¬ q = 2) : ((prs h (k + 1) q a).1, (prs h (k + 1) q a).2.1) = tl h k q (prs h k (subq q) a).1 (prs h k (subq q) a).2.1 := by
  rw [prs, if_neg hq]
  unfold tl
  have z := prs_01 h k (subq q) a
  have z2 := prs_01 h k q ((prs h k (subq q) a).2.1 + 1)
  by_cases h1 : (prs h k (subq q) a).1 = 1
  · rw [if_pos h1]
    by_cases h2 : h (prs h k (subq q) a).2.1 = sepq q
    · rw [if_pos h2, if_pos (And.intro h1 h2)]
      by_cases h3 : (prs h k q ((prs h k (subq q) a).2.1 + 1)).1 = 1
      · rw [if_pos h3, h3]
      · rw [if_neg h3]
        have h4 : (prs h k q ((prs h k (subq q) a).2.1 + 1)).1 = 0 := by omega
        rw [h4]
    · rw [if_neg h2, if_neg (fun z => h2 z.2), h1]
  · rw [if_neg h1, if_neg (fun z => h1 z.1)]
    have h4 : (prs h k (subq q) a).1 = 0 := by omega
    rw [h4]

