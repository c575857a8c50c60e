/-! THE TWIN: refreshing, nodes, interpolation, counting, saving -/
set_option maxRecDepth 100000
abbrev rfU (g : Nat → Nat) (s e x : Nat) : Prop := g (9 + (x - 1) / 3) = 1 ∧ gSh g s x 0 = 1 ∧ gSh g s x 2 = e
/-- a refreshing: the places up to p -/
def rfP (M : TW) (s k e : Nat) : Nat → TW
  | 0 => M
  | p + 1 => if rfU (M 1) s e (p + 1) then tShare (rfP M s k e p) s (p + 1) ((gSh (M 1) s (p + 1) 1 + poD (M 4) (p + 1) k 0) % 1019) (e + 1) else rfP M s k e p
def rfN (M : TW) (s e : Nat) : Nat → Nat
  | 0 => 0
  | p + 1 => rfN M s e p + (if rfU (M 1) s e (p + 1) then 1 else 0)
def rfC (M : TW) (s : Nat) : Nat → TW
  | 0 => M
  | j + 1 => tset (rfC M s j) 1 (38 + 124 * s + (3 + j)) (gOf (M 1) s (3 + j) * (4 ^ (M 4 j) % 2039) % 2039)
def rfM (M : TW) (s k e : Nat) : TW := tset (rfC (rfP (tCf M 0 k) s k e 24) s k) 1 (38 + 124 * s + 2) (e + 1)
theorem tShare_far (M : TW) (s x v e i : Nat) (h : i < 38 + 124 * s + (52 + 3 * (x - 1)) ∨ 38 + 124 * s + (52 + 3 * (x - 1) + 2) < i) : tShare M s x v e 1 i = M 1 i := by
  unfold tShare
  rw [tset_s, nup_n _ _ (by omega), tset_s, nup_n _ _ (by omega), tset_s, nup_n _ _ (by omega)]
theorem rfP_far (M : TW) (s k e p i : Nat) (h : i < 38 + 124 * s + 52 ∨ 38 + 124 * s + (52 + 3 * p) ≤ i) : rfP M s k e p 1 i = M 1 i := by
  induction p with
  | zero => rfl
  | succ p ih =>
    rw [rfP]
    split
    · rw [tShare_far _ _ _ _ _ _ (by omega), ih (by omega)]
    · exact ih (by omega)
theorem rfP_n (M : TW) (s k e p b : Nat) (h : b ≠ 1) : rfP M s k e p b = M b := by
  induction p with
  | zero => rfl
  | succ p ih =>
    rw [rfP]
    split
    · rw [tShare_n _ _ _ _ _ _ h, ih]
    · exact ih
theorem rfC_n (M : TW) (s j b : Nat) (h : b ≠ 1) : rfC M s j b = M b := by
  induction j with
  | zero => rfl
  | succ j ih => rw [rfC, tset_n _ _ _ h, ih]
theorem rfC_far (M : TW) (s j i : Nat) (h : i < 38 + 124 * s + 3 ∨ 38 + 124 * s + 3 + j ≤ i) : rfC M s j 1 i = M 1 i := by
  induction j with
  | zero => rfl
  | succ j ih => rw [rfC, tset_s, nup_n _ _ (by omega), ih (by omega)]
theorem twB_rfP {M : TW} {s k e p : Nat} (h : twB M) (he : e + 1 < 4294967296) : twB (rfP M s k e p) := by
  induction p with
  | zero => exact h
  | succ p ih =>
    rw [rfP]
    split
    · exact twB_share ih (Nat.lt_trans (Nat.mod_lt _ (by decide)) (by decide)) he
    · exact ih
abbrev tlC (g : Nat → Nat) (s mem ga x : Nat) : Prop := mem / 2 ^ ((x - 1) / 3) % 2 = 1 ∧ gSh g s x 0 = 1 ∧ (ga = 0 ∨ stF g s x = 0)
/-- the places, up to n, of shares of members -/
def tlL (g : Nat → Nat) (s mem ga : Nat) : Nat → List Nat
  | 0 => []
  | n + 1 => if tlC g s mem ga (n + 1) then tlL g s mem ga n ++ [n + 1] else tlL g s mem ga n
theorem tlL_len (g : Nat → Nat) (s mem ga n : Nat) : (tlL g s mem ga n).length ≤ n := by
  induction n with
  | zero => exact Nat.le_refl _
  | succ n ih =>
    rw [tlL]
    split
    · simp; omega
    · omega
theorem tlL_mem (g : Nat → Nat) (s mem ga n : Nat) : ∀ x ∈ tlL g s mem ga n, 1 ≤ x ∧ x ≤ n := by
  induction n with
  | zero => intro x hx; cases hx
  | succ n ih =>
    intro x hx
    rw [tlL] at hx
    split at hx
    · rcases List.mem_append.mp hx with h | h
      · have := ih x h; omega
      · have := List.mem_singleton.mp h; omega
    · have := ih x hx; omega
def tNd (M : TW) (L : List Nat) : TW := fun b => if b = 5 then (fun i => L.getD i (M 5 i)) else if b = 0 then nup (M 0) 6 L.length else M b
theorem tNd_0 (M : TW) : tset M 0 6 0 = tNd M [] := by
  funext b i
  unfold tset tNd
  by_cases h5 : b = 5
  · subst h5
    rfl
  · rw [if_neg h5]
    rfl
theorem tNd_s (M : TW) (L : List Nat) (x : Nat) : tset (tset (tNd M L) 5 L.length x) 0 6 (L.length + 1) = tNd M (L ++ [x]) := by
  funext b i
  by_cases h5 : b = 5
  · subst h5
    show nup (tNd M L 5) L.length x i = (L ++ [x]).getD i (M 5 i)
    unfold nup
    show (if i = L.length then x else L.getD i (M 5 i)) = _
    rw [List.getD_eq_getElem?_getD, List.getD_eq_getElem?_getD]
    by_cases h : i = L.length
    · subst h
      simp
    · rw [if_neg h]
      by_cases h2 : i < L.length
      · rw [List.getElem?_append_left h2]
      · rw [List.getElem?_eq_none (by omega), List.getElem?_eq_none (by simp; omega)]
  · by_cases h0 : b = 0
    · subst h0
      show nup (nup (M 0) 6 L.length) 6 (L.length + 1) i = nup (M 0) 6 (L ++ [x]).length i
      unfold nup
      simp only [List.length_append, List.length_singleton]
      split <;> rfl
    · unfold tset tNd
      simp only [if_neg h5, if_neg h0]
theorem tNd_same (M : TW) (L : List Nat) : tSame M (tNd M L) := ⟨rfl, rfl, rfl, rfl, rfl, rfl, rfl, rfl, rfl⟩
theorem tNd_at (M : TW) (L : List Nat) (i : Nat) (h : i < L.length) : tNd M L 5 i = L[i] := by
  show L.getD i (M 5 i) = L[i]
  rw [List.getD_eq_getElem?_getD, List.getElem?_eq_getElem h]
  rfl
theorem twB_nd {M : TW} {L : List Nat} (h : twB M) (hL : ∀ x ∈ L, x ≤ 24) (hl : L.length ≤ 24) : twB (tNd M L) := by
  intro b i
  by_cases h5 : b = 5
  · subst h5
    show L.getD i (M 5 i) < 4294967296
    rw [List.getD_eq_getElem?_getD]
    cases e : L[i]? with
    | none => exact h _ _
    | some y =>
      have := hL y (List.mem_of_getElem? e)
      show y < 4294967296
      omega
  · by_cases h0 : b = 0
    · subst h0
      show nup (M 0) 6 L.length i < 4294967296
      unfold nup
      split
      · omega
      · exact h _ _
    · unfold tNd
      rw [if_neg h5, if_neg h0]
      exact h _ _
/-- interpolation: the i-th term while the nodes up to j are taken in; the sum -/
def vaI (g : Nat → Nat) (s : Nat) (nd : Nat → Nat) (x i : Nat) : Nat → Nat
  | 0 => gSh g s (nd i) 1
  | j + 1 => if j = i then vaI g s nd x i j else (vaI g s nd x i j * ((x + 1019 - nd j) % 1019) % 1019) * (((nd i + 1019 - nd j) % 1019) ^ 1017 % 1019) % 1019
def vaS (g : Nat → Nat) (s : Nat) (nd : Nat → Nat) (k x : Nat) : Nat → Nat
  | 0 => 0
  | i + 1 => (vaS g s nd k x i + vaI g s nd x i k) % 1019
theorem vaI_lt (g : Nat → Nat) (s : Nat) (nd : Nat → Nat) (x i j : Nat) (h : gSh g s (nd i) 1 < 1019) : vaI g s nd x i j < 1019 := by
  induction j with
  | zero => exact h
  | succ j ih =>
    rw [vaI]
    split
    · exact ih
    · exact Nat.mod_lt _ (by decide)
theorem vaS_lt (g : Nat → Nat) (s : Nat) (nd : Nat → Nat) (k x i : Nat) : vaS g s nd k x i < 1019 := by
  cases i with
  | zero => show 0 < 1019; decide
  | succ i => exact Nat.mod_lt _ (by decide)
def tkF (g : Nat → Nat) (mem : Nat) : Nat → Nat
  | 0 => 0
  | m + 1 => tkF g mem m ||| (if mem / 2 ^ m % 2 = 1 ∧ g (9 + m) = 1 then 1 * 2 ^ m else 0)
theorem tkF_lt (g : Nat → Nat) (mem m : Nat) : tkF g mem m < 2 ^ m := by
  induction m with
  | zero => show 0 < 1; decide
  | succ m ih =>
    rw [tkF]
    have h2 : 2 ^ m < 2 ^ (m + 1) := Nat.pow_lt_pow_right (by decide) (by omega)
    refine Nat.or_lt_two_pow (Nat.lt_trans ih h2) ?_
    split
    · omega
    · exact Nat.two_pow_pos _
def tLv (M : TW) (c d : Nat) : TW := tset (tset (tset M 8 (M 0 10) c) 9 (M 0 10) d) 0 10 (M 0 10 + 1)
def cnF (g : Nat → Nat) (s st : Nat) : Nat → Nat
  | 0 => 0
  | x + 1 => cnF g s st x + (if gSh g s (x + 1) 0 = 1 ∧ (st = 4294967295 ∨ stF g s (x + 1) = st) then 1 else 0)
def seF (g : Nat → Nat) : Nat → Nat
  | 0 => 0
  | s + 1 => seF g s + gOf g s 0
def exP (M : TW) (s m : Nat) : Nat → TW
  | 0 => M
  | i + 1 => tRem (exP M s m i) s (3 * m + 1 + i) 3
def exN (M : TW) (s m : Nat) : Nat → Nat
  | 0 => 0
  | i + 1 => exN M s m i + (if gSh (exP M s m i 1) s (3 * m + 1 + i) 0 = 1 then 1 else 0)
theorem twB_exP {M : TW} {s m i : Nat} (h : twB M) : twB (exP M s m i) := by
  induction i with
  | zero => exact h
  | succ i ih => exact twB_rem ih
theorem exP_g (M : TW) (s m i j : Nat) (h : j < 38) : exP M s m i 1 j = M 1 j := by
  induction i with
  | zero => rfl
  | succ i ih => rw [exP, tRem_g _ _ _ _ _ h, ih]
/-- the numbers up to i copied from the array a into b -/
def tCp (M : TW) (a b i : Nat) : TW := fun c => if c = b then (fun j => if j < i then M a j else M b j) else M c
theorem tCp_0 (M : TW) (a b : Nat) : tCp M a b 0 = M := by
  funext c j
  unfold tCp
  split
  · subst c
    exact if_neg (by omega)
  · rfl
theorem tCp_s (M : TW) (a b i : Nat) (h : a ≠ b) : tset (tCp M a b i) b i (tCp M a b i a i) = tCp M a b (i + 1) := by
  funext c j
  unfold tset tCp
  by_cases hc : c = b
  · subst hc
    simp only [if_true, if_neg h]
    unfold nup
    by_cases hj : j = i
    · subst hj
      rw [if_pos rfl, if_pos (by omega)]
    · rw [if_neg hj]
      dsimp only
      by_cases h1 : j < i
      · rw [if_pos h1, if_pos (by omega)]
      · rw [if_neg h1, if_neg (by omega)]
  · simp only [if_neg hc]

abbrev mX3_tellNodes : GM := (yX3_tellNodes, 5, none, [], { frames := 3, cells := 0, slots := 0, locals := 70 }, 255)
theorem kX3_tellNodes : gCv cX3_tellNodes mX3_tellNodes 3 := ⟨q2306, qs44, q90, q2307, ⟨by decide +kernel, by decide +kernel, by decide +kernel⟩, rfl⟩
set_option maxHeartbeats 400000 in
theorem ctX3_tellNodes {E : GE} {h : AH} {A : Nat → Nat} (hA : twA A) (M : TW) (s mem ga : Nat) (hB : twB M) (hs : s < 4) (hm : mem < 2147483648) (hg : ga < 2) (hS : slP (M 1) s) : Ct E cX3_tellNodes mX3_tellNodes [.ref (A 0), .int (nI s), .int (nI mem), .int (nI ga)] (twO E A M h) (pV fun h' => h' = twO E A (tNd M (tlL (M 1) s mem ga 24)) h) noX := by
  refine g_enter (own := "SecretVaultModel") [some (.ref (A 0)), some (.int (nI s)), some (.int (nI mem)), some (.int (nI ga)), none] (by decide +kernel) rfl rfl (Nat.le_of_ble_eq_true rfl) rfl rfl (fun X => ?_)
  have L : ∀ n, 0 ≤ n → n ≤ 24 → V E cX3_tellNodes "SecretVaultModel" mX3_tellNodes (pV fun h' => h' = twO E A (tNd M (tlL (M 1) s mem ga 24)) h) noX X (twO E A (tNd M (tlL (M 1) s mem ga n)) h) 0 0 8 [some (.ref (A 0)), some (.int (nI (s))), some (.int (nI (mem))), some (.int (nI (ga))), some (.int (nI (n + 1)))] [] := by
    refine g_for _ 0 24 ?_ ?_
    · refine g_iload4 dX3_tellNodes_8 ?_
      refine g_bipush (nI 24) dX3_tellNodes_10 (by decide) ?_
      first | refine g_icmpN_gt (tgt := 79) dX3_tellNodes_12 (by decide) (by omega) (by omega) (fun c_12 => ?_) (fun c_12 => ?_) | refine g_icmp_gt (tgt := 79) dX3_tellNodes_12 (by decide) (fun c_12 => ?_) (fun c_12 => ?_)
      · exact g_vret dX3_tellNodes_79 rfl ⟨rfl, rfl⟩
      · omega
    · intro n h0 hn ih
      have hlen := tlL_len (M 1) s mem ga n
      have hBn : twB (tNd M (tlL (M 1) s mem ga n)) := twB_nd hB (fun x hx => by have := tlL_mem (M 1) s mem ga n x hx; omega) (by omega)
      have hst := stF_lt (M 1) s (n + 1)
      have e3 : (n + 1 - 1) / 3 < 32 := by omega
      have e6 : tNd M (tlL (M 1) s mem ga n) 0 6 = (tlL (M 1) s mem ga n).length := rfl
      refine g_iload4 dX3_tellNodes_8 ?_
      refine g_bipush (nI 24) dX3_tellNodes_10 (by decide) ?_
      first | refine g_icmpN_gt (tgt := 79) dX3_tellNodes_12 (by decide) (by first | omega | exact hB _ _ | exact hBn _ _ | exact Nat.lt_of_le_of_lt (Nat.div_le_self _ _) (by omega)) (by first | omega | exact hB _ _ | exact hBn _ _ | exact Nat.lt_of_le_of_lt (Nat.div_le_self _ _) (by omega)) (fun c_12 => ?_) (fun c_12 => ?_) | refine g_icmp_gt (tgt := 79) dX3_tellNodes_12 (by decide) (fun c_12 => ?_) (fun c_12 => ?_)
      · omega
      · refine g_iload2 dX3_tellNodes_15 ?_
        refine g_iload4 dX3_tellNodes_16 ?_
        refine g_S1n0 (ctX3_owner _ (by omega)) kX3_owner q2254 (by decide) ⟨rfl, rfl⟩ ⟨Nat.zero_le _, Nat.zero_le _⟩ (Nat.le_of_ble_eq_true rfl) dX3_tellNodes_18 (fun r_18 h_18 p_18 => ?_)
        obtain ⟨rfl, rfl⟩ := p_18
        refine g_ishrN dX3_tellNodes_21 (by first | omega | exact hB _ _ | exact hBn _ _ | exact Nat.lt_of_le_of_lt (Nat.div_le_self _ _) (by omega)) (by first | omega | exact hB _ _ | exact hBn _ _ | exact Nat.lt_of_le_of_lt (Nat.div_le_self _ _) (by omega)) ?_
        refine g_iconst (nI 1) dX3_tellNodes_22 (by decide) ?_
        refine g_iand1 dX3_tellNodes_23 (by first | omega | exact hB _ _ | exact hBn _ _ | exact Nat.lt_of_le_of_lt (Nat.div_le_self _ _) (by omega)) ?_
        refine g_iconst (nI 1) dX3_tellNodes_24 (by decide) ?_
        first | refine g_icmpN_ne (tgt := 73) dX3_tellNodes_25 (by decide) (by first | omega | exact hB _ _ | exact hBn _ _ | exact Nat.lt_of_le_of_lt (Nat.div_le_self _ _) (by omega)) (by first | omega | exact hB _ _ | exact hBn _ _ | exact Nat.lt_of_le_of_lt (Nat.div_le_self _ _) (by omega)) (fun c_25 => ?_) (fun c_25 => ?_) | refine g_icmpU_ne (tgt := 73) dX3_tellNodes_25 (by decide) (by first | omega | exact hB _ _ | exact hBn _ _ | exact Nat.lt_of_le_of_lt (Nat.div_le_self _ _) (by omega)) (by first | omega | exact hB _ _ | exact hBn _ _ | exact Nat.lt_of_le_of_lt (Nat.div_le_self _ _) (by omega)) (fun c_25 => ?_) (fun c_25 => ?_) | refine g_icmp_ne (tgt := 73) dX3_tellNodes_25 (by decide) (fun c_25 => ?_) (fun c_25 => ?_)
        · first | refine g_iincN4 1 dX3_tellNodes_73 (by decide) (by decide) ?_ | refine g_iinc4 _ dX3_tellNodes_73 rfl (by decide) ?_
          refine g_goto (tgt := 8) dX3_tellNodes_76 (by decide) ?_
          first | (rw [show tlL (M 1) s mem ga (n + 1) = tlL (M 1) s mem ga n ++ [n + 1] from by rw [tlL, if_pos (by omega)], ← tNd_s] at ih; exact ih) | (rw [show tlL (M 1) s mem ga (n + 1) = tlL (M 1) s mem ga n from by rw [tlL, if_neg (by omega)]] at ih; exact ih)
        · first | refine g_aload0 dX3_tellNodes_28 ?_ | refine g_aloadQ0 dX3_tellNodes_28 ?_ | refine g_aloadN0 dX3_tellNodes_28 ?_
          refine g_iload1 dX3_tellNodes_29 ?_
          refine g_iload4 dX3_tellNodes_30 ?_
          refine g_V2n0 (ctX3_hasShare hA _ _ _ hBn (by omega) (by omega)) kX3_hasShare q2212 tw_0 rfl rfl (by decide) ⟨rfl, rfl⟩ ⟨Nat.zero_le _, Nat.zero_le _⟩ (Nat.le_of_ble_eq_true rfl) dX3_tellNodes_32 (fun r_32 h_32 p_32 => ?_)
          obtain ⟨hr_32, hi0_r, rfl⟩ := p_32
          have hi_32 : r_32 = 1 ↔ gSh (M 1) s (n + 1) 0 = 1 := hi0_r
          first | refine g_ifN_eq (tgt := 73) dX3_tellNodes_35 (by decide) (by first | omega | exact hB _ _ | exact hBn _ _ | exact Nat.lt_of_le_of_lt (Nat.div_le_self _ _) (by omega)) (fun c_35 => ?_) (fun c_35 => ?_) | refine g_if_eq (tgt := 73) dX3_tellNodes_35 (by decide) (fun c_35 => ?_) (fun c_35 => ?_)
          · first | refine g_iincN4 1 dX3_tellNodes_73 (by decide) (by decide) ?_ | refine g_iinc4 _ dX3_tellNodes_73 rfl (by decide) ?_
            refine g_goto (tgt := 8) dX3_tellNodes_76 (by decide) ?_
            first | (rw [show tlL (M 1) s mem ga (n + 1) = tlL (M 1) s mem ga n ++ [n + 1] from by rw [tlL, if_pos (by omega)], ← tNd_s] at ih; exact ih) | (rw [show tlL (M 1) s mem ga (n + 1) = tlL (M 1) s mem ga n from by rw [tlL, if_neg (by omega)]] at ih; exact ih)
          · refine g_iload3 dX3_tellNodes_38 ?_
            first | refine g_ifN_eq (tgt := 52) dX3_tellNodes_39 (by decide) (by first | omega | exact hB _ _ | exact hBn _ _ | exact Nat.lt_of_le_of_lt (Nat.div_le_self _ _) (by omega)) (fun c_39 => ?_) (fun c_39 => ?_) | refine g_if_eq (tgt := 52) dX3_tellNodes_39 (by decide) (fun c_39 => ?_) (fun c_39 => ?_)
            · first | refine g_aload0 dX3_tellNodes_52 ?_ | refine g_aloadQ0 dX3_tellNodes_52 ?_ | refine g_aloadN0 dX3_tellNodes_52 ?_
              refine t_get5 hA q2103 dX3_tellNodes_53 ?_
              first | refine g_aload0 dX3_tellNodes_56 ?_ | refine g_aloadQ0 dX3_tellNodes_56 ?_ | refine g_aloadN0 dX3_tellNodes_56 ?_
              refine t_get6 hA q2104 dX3_tellNodes_57 ?_
              refine g_iload4 dX3_tellNodes_60 ?_
              refine t_ast5 hA (by first | omega | exact hB _ _ | exact hBn _ _ | exact Nat.lt_of_le_of_lt (Nat.div_le_self _ _) (by omega)) dX3_tellNodes_62 ?_
              first | refine g_aload0 dX3_tellNodes_63 ?_ | refine g_aloadQ0 dX3_tellNodes_63 ?_ | refine g_aloadN0 dX3_tellNodes_63 ?_
              refine g_dup dX3_tellNodes_64 rfl ?_
              refine t_get6 hA q2104 dX3_tellNodes_65 ?_
              refine g_iconst (nI 1) dX3_tellNodes_68 (by decide) ?_
              first | refine g_iaddN dX3_tellNodes_69 ?_ | refine g_iadd dX3_tellNodes_69 ?_
              refine t_put6 hA q2104 dX3_tellNodes_70 ?_
              first | refine g_iincN4 1 dX3_tellNodes_73 (by decide) (by decide) ?_ | refine g_iinc4 _ dX3_tellNodes_73 rfl (by decide) ?_
              refine g_goto (tgt := 8) dX3_tellNodes_76 (by decide) ?_
              first | (rw [show tlL (M 1) s mem ga (n + 1) = tlL (M 1) s mem ga n ++ [n + 1] from by rw [tlL, if_pos (by omega)], ← tNd_s] at ih; exact ih) | (rw [show tlL (M 1) s mem ga (n + 1) = tlL (M 1) s mem ga n from by rw [tlL, if_neg (by omega)]] at ih; exact ih)
            · first | refine g_aload0 dX3_tellNodes_42 ?_ | refine g_aloadQ0 dX3_tellNodes_42 ?_ | refine g_aloadN0 dX3_tellNodes_42 ?_
              refine g_iload1 dX3_tellNodes_43 ?_
              refine g_iload4 dX3_tellNodes_44 ?_
              refine g_V2n0 (ctX3_stateOf hA _ _ _ hBn (by omega) (by omega) hS) kX3_stateOf q2224 tw_0 rfl rfl (by decide) ⟨rfl, rfl⟩ ⟨Nat.zero_le _, Nat.zero_le _⟩ (Nat.le_of_ble_eq_true rfl) dX3_tellNodes_46 (fun r_46 h_46 p_46 => ?_)
              obtain ⟨hi_46, rfl⟩ := p_46
              have hj_46 : r_46 = stF (M 1) s (n + 1) := hi_46
              first | refine g_ifN_ne (tgt := 73) dX3_tellNodes_49 (by decide) (by first | omega | exact hB _ _ | exact hBn _ _ | exact Nat.lt_of_le_of_lt (Nat.div_le_self _ _) (by omega)) (fun c_49 => ?_) (fun c_49 => ?_) | refine g_if_ne (tgt := 73) dX3_tellNodes_49 (by decide) (fun c_49 => ?_) (fun c_49 => ?_)
              · first | refine g_iincN4 1 dX3_tellNodes_73 (by decide) (by decide) ?_ | refine g_iinc4 _ dX3_tellNodes_73 rfl (by decide) ?_
                refine g_goto (tgt := 8) dX3_tellNodes_76 (by decide) ?_
                first | (rw [show tlL (M 1) s mem ga (n + 1) = tlL (M 1) s mem ga n ++ [n + 1] from by rw [tlL, if_pos (by omega)], ← tNd_s] at ih; exact ih) | (rw [show tlL (M 1) s mem ga (n + 1) = tlL (M 1) s mem ga n from by rw [tlL, if_neg (by omega)]] at ih; exact ih)
              · first | refine g_aload0 dX3_tellNodes_52 ?_ | refine g_aloadQ0 dX3_tellNodes_52 ?_ | refine g_aloadN0 dX3_tellNodes_52 ?_
                refine t_get5 hA q2103 dX3_tellNodes_53 ?_
                first | refine g_aload0 dX3_tellNodes_56 ?_ | refine g_aloadQ0 dX3_tellNodes_56 ?_ | refine g_aloadN0 dX3_tellNodes_56 ?_
                refine t_get6 hA q2104 dX3_tellNodes_57 ?_
                refine g_iload4 dX3_tellNodes_60 ?_
                refine t_ast5 hA (by first | omega | exact hB _ _ | exact hBn _ _ | exact Nat.lt_of_le_of_lt (Nat.div_le_self _ _) (by omega)) dX3_tellNodes_62 ?_
                first | refine g_aload0 dX3_tellNodes_63 ?_ | refine g_aloadQ0 dX3_tellNodes_63 ?_ | refine g_aloadN0 dX3_tellNodes_63 ?_
                refine g_dup dX3_tellNodes_64 rfl ?_
                refine t_get6 hA q2104 dX3_tellNodes_65 ?_
                refine g_iconst (nI 1) dX3_tellNodes_68 (by decide) ?_
                first | refine g_iaddN dX3_tellNodes_69 ?_ | refine g_iadd dX3_tellNodes_69 ?_
                refine t_put6 hA q2104 dX3_tellNodes_70 ?_
                first | refine g_iincN4 1 dX3_tellNodes_73 (by decide) (by decide) ?_ | refine g_iinc4 _ dX3_tellNodes_73 rfl (by decide) ?_
                refine g_goto (tgt := 8) dX3_tellNodes_76 (by decide) ?_
                first | (rw [show tlL (M 1) s mem ga (n + 1) = tlL (M 1) s mem ga n ++ [n + 1] from by rw [tlL, if_pos (by omega)], ← tNd_s] at ih; exact ih) | (rw [show tlL (M 1) s mem ga (n + 1) = tlL (M 1) s mem ga n from by rw [tlL, if_neg (by omega)]] at ih; exact ih)
  first | refine g_aload0 dX3_tellNodes_0 ?_ | refine g_aloadQ0 dX3_tellNodes_0 ?_ | refine g_aloadN0 dX3_tellNodes_0 ?_
  refine g_iconst (nI 0) dX3_tellNodes_1 (by decide) ?_
  refine t_put6 hA q2104 dX3_tellNodes_2 ?_
  refine g_iconst (nI 1) dX3_tellNodes_5 (by decide) ?_
  refine g_istore4 dX3_tellNodes_6 (by decide) ?_
  rw [tNd_0]
  exact L 0 (by omega) (by omega)
abbrev mX3_valueAt : GM := (yX3_valueAt, 8, (some .int), [], { frames := 2, cells := 0, slots := 0, locals := 45 }, 255)
theorem kX3_valueAt : gCv cX3_valueAt mX3_valueAt 3 := ⟨q2337, qs51, q90, q2338, ⟨by decide +kernel, by decide +kernel, by decide +kernel⟩, rfl⟩
set_option maxHeartbeats 400000 in
theorem ctX3_valueAt {E : GE} {h : AH} {A : Nat → Nat} (hA : twA A) (M : TW) (s k x : Nat) (hs : s < 4) (hk : k ≤ 24) (hx : x ≤ 24) (hS : slP (M 1) s) (hN : ∀ i, i < k → 1 ≤ M 5 i ∧ M 5 i ≤ 24) : Ct E cX3_valueAt mX3_valueAt [.ref (A 0), .int (nI s), .int (nI k), .int (nI x)] (twO E A M h) (pN fun r h' => r = (vaS (M 1) s (M 5) k x k) ∧ h' = twO E A M h) noX := by
  refine g_enter (own := "SecretVaultModel") [some (.ref (A 0)), some (.int (nI s)), some (.int (nI k)), some (.int (nI x)), none, none, none, none] (by decide +kernel) rfl rfl (Nat.le_of_ble_eq_true rfl) rfl rfl (fun X => ?_)
  have L : ∀ i, 0 ≤ i → i ≤ k → ∀ o6 o7, V E cX3_valueAt "SecretVaultModel" mX3_valueAt (pN fun r h' => r = (vaS (M 1) s (M 5) k x k) ∧ h' = twO E A M h) noX X (twO E A M h) 0 0 6 [some (.ref (A 0)), some (.int (nI (s))), some (.int (nI (k))), some (.int (nI (x))), some (.int (nI (vaS (M 1) s (M 5) k x i))), some (.int (nI (i))), o6, o7] [] := by
    refine g_for _ 0 k ?_ ?_
    · intro o6 o7
      refine g_iload5 dX3_valueAt_6 ?_
      refine g_iload2 dX3_valueAt_8 ?_
      first | refine g_icmpN_ge (tgt := 127) dX3_valueAt_9 (by decide) (by omega) (by omega) (fun c_9 => ?_) (fun c_9 => ?_) | refine g_icmp_ge (tgt := 127) dX3_valueAt_9 (by decide) (fun c_9 => ?_) (fun c_9 => ?_)
      · refine g_iload4 dX3_valueAt_127 ?_
        exact g_iret dX3_valueAt_129 rfl ⟨_, rfl, rfl, rfl⟩
      · omega
    · intro i h0 hi ih o6 o7
      have hni := hN i hi
      have hvi := hS.2.2 (M 5 i) hni.1 hni.2
      have hsl := vaS_lt (M 1) s (M 5) k x i
      have L2 : ∀ j, 0 ≤ j → j ≤ k → V E cX3_valueAt "SecretVaultModel" mX3_valueAt (pN fun r h' => r = (vaS (M 1) s (M 5) k x k) ∧ h' = twO E A M h) noX X (twO E A M h) 0 0 30 [some (.ref (A 0)), some (.int (nI (s))), some (.int (nI (k))), some (.int (nI (x))), some (.int (nI (vaS (M 1) s (M 5) k x i))), some (.int (nI (i))), some (.int (nI (vaI (M 1) s (M 5) x i j))), some (.int (nI (j)))] [] := by
        refine g_for _ 0 k ?_ ?_
        · have hvk := vaI_lt (M 1) s (M 5) x i k hvi
          refine g_iload7 dX3_valueAt_30 ?_
          refine g_iload2 dX3_valueAt_32 ?_
          first | refine g_icmpN_ge (tgt := 110) dX3_valueAt_33 (by decide) (by omega) (by omega) (fun c_33 => ?_) (fun c_33 => ?_) | refine g_icmp_ge (tgt := 110) dX3_valueAt_33 (by decide) (fun c_33 => ?_) (fun c_33 => ?_)
          · refine g_iload4 dX3_valueAt_110 ?_
            refine g_iload6 dX3_valueAt_112 ?_
            first | refine g_iaddN dX3_valueAt_114 ?_ | refine g_iadd dX3_valueAt_114 ?_
            refine g_sipush (nI 1019) dX3_valueAt_115 (by decide) ?_
            refine g_iremN dX3_valueAt_118 (by omega) (by omega) (by omega) ?_
            refine g_istore4 dX3_valueAt_119 (by decide) ?_
            first | refine g_iincN5 1 dX3_valueAt_121 (by decide) (by decide) ?_ | refine g_iinc5 _ dX3_valueAt_121 rfl (by decide) ?_
            refine g_goto (tgt := 6) dX3_valueAt_124 (by decide) ?_
            exact ih _ _
          · omega
        · intro j h0 hj ih2
          have hnj := hN j hj
          have hvj := vaI_lt (M 1) s (M 5) x i j hvi
          have m1 : (x + 1019 - M 5 j) % 1019 < 1019 := Nat.mod_lt _ (by decide)
          have m2 : ((M 5 i + 1019 - M 5 j) % 1019) ^ 1017 % 1019 < 1019 := Nat.mod_lt _ (by decide)
          have p1 : vaI (M 1) s (M 5) x i j * ((x + 1019 - M 5 j) % 1019) ≤ 1018 * 1018 := Nat.mul_le_mul (by omega) (by omega)
          have m3 : vaI (M 1) s (M 5) x i j * ((x + 1019 - M 5 j) % 1019) % 1019 < 1019 := Nat.mod_lt _ (by decide)
          have p2 : vaI (M 1) s (M 5) x i j * ((x + 1019 - M 5 j) % 1019) % 1019 * (((M 5 i + 1019 - M 5 j) % 1019) ^ 1017 % 1019) ≤ 1018 * 1018 := Nat.mul_le_mul (by omega) (by omega)
          refine g_iload7 dX3_valueAt_30 ?_
          refine g_iload2 dX3_valueAt_32 ?_
          first | refine g_icmpN_ge (tgt := 110) dX3_valueAt_33 (by decide) (by omega) (by omega) (fun c_33 => ?_) (fun c_33 => ?_) | refine g_icmp_ge (tgt := 110) dX3_valueAt_33 (by decide) (fun c_33 => ?_) (fun c_33 => ?_)
          · omega
          · refine g_iload7 dX3_valueAt_36 ?_
            refine g_iload5 dX3_valueAt_38 ?_
            first | refine g_icmpN_eq (tgt := 104) dX3_valueAt_40 (by decide) (by omega) (by omega) (fun c_40 => ?_) (fun c_40 => ?_) | refine g_icmpU_eq (tgt := 104) dX3_valueAt_40 (by decide) (by omega) (by omega) (fun c_40 => ?_) (fun c_40 => ?_) | refine g_icmp_eq (tgt := 104) dX3_valueAt_40 (by decide) (fun c_40 => ?_) (fun c_40 => ?_)
            · first | refine g_iincN7 1 dX3_valueAt_104 (by decide) (by decide) ?_ | refine g_iinc7 _ dX3_valueAt_104 rfl (by decide) ?_
              refine g_goto (tgt := 30) dX3_valueAt_107 (by decide) ?_
              first | rw [show vaI (M 1) s (M 5) x i (j + 1) = vaI (M 1) s (M 5) x i j from by rw [vaI, if_pos (by omega)]] at ih2 | rw [show vaI (M 1) s (M 5) x i (j + 1) = (vaI (M 1) s (M 5) x i j * ((x + 1019 - M 5 j) % 1019) % 1019) * (((M 5 i + 1019 - M 5 j) % 1019) ^ 1017 % 1019) % 1019 from by rw [vaI, if_neg (by omega)]] at ih2
              exact ih2
            · refine g_iload6 dX3_valueAt_43 ?_
              refine g_iload3 dX3_valueAt_45 ?_
              first | refine g_aload0 dX3_valueAt_46 ?_ | refine g_aloadQ0 dX3_valueAt_46 ?_ | refine g_aloadN0 dX3_valueAt_46 ?_
              refine t_get5 hA q2103 dX3_valueAt_47 ?_
              refine g_iload7 dX3_valueAt_50 ?_
              refine t_ald5 hA (by omega) dX3_valueAt_52 ?_
              refine g_isub dX3_valueAt_53 ?_
              refine g_sipush (nI 1019) dX3_valueAt_54 (by decide) ?_
              refine g_iadd dX3_valueAt_57 ?_
              rw [nI_m1 (a := x) (b := M 5 j) (c := 1019) (by omega)]
              refine g_sipush (nI 1019) dX3_valueAt_58 (by decide) ?_
              refine g_iremN dX3_valueAt_61 (by omega) (by omega) (by omega) ?_
              first | refine g_imulN dX3_valueAt_62 ?_ | refine g_imul dX3_valueAt_62 ?_
              refine g_sipush (nI 1019) dX3_valueAt_63 (by decide) ?_
              refine g_iremN dX3_valueAt_66 (by omega) (by omega) (by omega) ?_
              refine g_istore6 dX3_valueAt_67 (by decide) ?_
              refine g_iload6 dX3_valueAt_69 ?_
              first | refine g_aload0 dX3_valueAt_71 ?_ | refine g_aloadQ0 dX3_valueAt_71 ?_ | refine g_aloadN0 dX3_valueAt_71 ?_
              refine t_get5 hA q2103 dX3_valueAt_72 ?_
              refine g_iload5 dX3_valueAt_75 ?_
              refine t_ald5 hA (by omega) dX3_valueAt_77 ?_
              first | refine g_aload0 dX3_valueAt_78 ?_ | refine g_aloadQ0 dX3_valueAt_78 ?_ | refine g_aloadN0 dX3_valueAt_78 ?_
              refine t_get5 hA q2103 dX3_valueAt_79 ?_
              refine g_iload7 dX3_valueAt_82 ?_
              refine t_ald5 hA (by omega) dX3_valueAt_84 ?_
              refine g_isub dX3_valueAt_85 ?_
              refine g_sipush (nI 1019) dX3_valueAt_86 (by decide) ?_
              refine g_iadd dX3_valueAt_89 ?_
              rw [nI_m1 (a := M 5 i) (b := M 5 j) (c := 1019) (by omega)]
              refine g_sipush (nI 1019) dX3_valueAt_90 (by decide) ?_
              refine g_iremN dX3_valueAt_93 (by omega) (by omega) (by omega) ?_
              refine g_S1n0 (ctX3_inverse _ (by omega)) kX3_inverse q2339 (by decide) ⟨rfl, rfl⟩ ⟨Nat.zero_le _, Nat.zero_le _⟩ (Nat.le_of_ble_eq_true rfl) dX3_valueAt_94 (fun r_94 h_94 p_94 => ?_)
              obtain ⟨rfl, rfl⟩ := p_94
              first | refine g_imulN dX3_valueAt_97 ?_ | refine g_imul dX3_valueAt_97 ?_
              refine g_sipush (nI 1019) dX3_valueAt_98 (by decide) ?_
              refine g_iremN dX3_valueAt_101 (by omega) (by omega) (by omega) ?_
              refine g_istore6 dX3_valueAt_102 (by decide) ?_
              first | refine g_iincN7 1 dX3_valueAt_104 (by decide) (by decide) ?_ | refine g_iinc7 _ dX3_valueAt_104 rfl (by decide) ?_
              refine g_goto (tgt := 30) dX3_valueAt_107 (by decide) ?_
              first | rw [show vaI (M 1) s (M 5) x i (j + 1) = vaI (M 1) s (M 5) x i j from by rw [vaI, if_pos (by omega)]] at ih2 | rw [show vaI (M 1) s (M 5) x i (j + 1) = (vaI (M 1) s (M 5) x i j * ((x + 1019 - M 5 j) % 1019) % 1019) * (((M 5 i + 1019 - M 5 j) % 1019) ^ 1017 % 1019) % 1019 from by rw [vaI, if_neg (by omega)]] at ih2
              exact ih2
      refine g_iload5 dX3_valueAt_6 ?_
      refine g_iload2 dX3_valueAt_8 ?_
      first | refine g_icmpN_ge (tgt := 127) dX3_valueAt_9 (by decide) (by omega) (by omega) (fun c_9 => ?_) (fun c_9 => ?_) | refine g_icmp_ge (tgt := 127) dX3_valueAt_9 (by decide) (fun c_9 => ?_) (fun c_9 => ?_)
      · omega
      · first | refine g_aload0 dX3_valueAt_12 ?_ | refine g_aloadQ0 dX3_valueAt_12 ?_ | refine g_aloadN0 dX3_valueAt_12 ?_
        refine g_iload1 dX3_valueAt_13 ?_
        first | refine g_aload0 dX3_valueAt_14 ?_ | refine g_aloadQ0 dX3_valueAt_14 ?_ | refine g_aloadN0 dX3_valueAt_14 ?_
        refine t_get5 hA q2103 dX3_valueAt_15 ?_
        refine g_iload5 dX3_valueAt_18 ?_
        refine t_ald5 hA (by omega) dX3_valueAt_20 ?_
        refine g_iconst (nI 1) dX3_valueAt_21 (by decide) ?_
        refine g_V3n0 (ctX3_shareOf hA _ _ _ _ (by omega) (by omega) (by omega)) kX3_shareOf q2216 tw_0 rfl rfl (by decide) ⟨rfl, rfl⟩ ⟨Nat.zero_le _, Nat.zero_le _⟩ (Nat.le_of_ble_eq_true rfl) dX3_valueAt_22 (fun r_22 h_22 p_22 => ?_)
        obtain ⟨rfl, rfl⟩ := p_22
        refine g_istore6 dX3_valueAt_25 (by decide) ?_
        refine g_iconst (nI 0) dX3_valueAt_27 (by decide) ?_
        refine g_istore7 dX3_valueAt_28 (by decide) ?_
        exact L2 0 (by omega) (by omega)
  refine g_iconst (nI 0) dX3_valueAt_0 (by decide) ?_
  refine g_istore4 dX3_valueAt_1 (by decide) ?_
  refine g_iconst (nI 0) dX3_valueAt_3 (by decide) ?_
  refine g_istore5 dX3_valueAt_4 (by decide) ?_
  exact L 0 (by omega) (by omega) _ _
abbrev mX3_taken : GM := (yX3_taken, 4, (some .int), [], { frames := 1, cells := 0, slots := 0, locals := 21 }, 255)
theorem kX3_taken : gCv cX3_taken mX3_taken 1 := ⟨q2302, qs43, q90, q2303, ⟨by decide +kernel, by decide +kernel, by decide +kernel⟩, rfl⟩
set_option maxHeartbeats 400000 in
theorem ctX3_taken {E : GE} {h : AH} {A : Nat → Nat} (hA : twA A) (M : TW) (mem : Nat) (hB : twB M) (hm : mem < 2147483648) : Ct E cX3_taken mX3_taken [.ref (A 0), .int (nI mem)] (twO E A M h) (pN fun r h' => r = (tkF (M 1) mem 8) ∧ h' = twO E A M h) noX := by
  refine g_enter (own := "SecretVaultModel") [some (.ref (A 0)), some (.int (nI mem)), none, none] (by decide +kernel) rfl rfl (Nat.le_of_ble_eq_true rfl) rfl rfl (fun X => ?_)
  have L : ∀ m, 0 ≤ m → m ≤ 8 → V E cX3_taken "SecretVaultModel" mX3_taken (pN fun r h' => r = (tkF (M 1) mem 8) ∧ h' = twO E A M h) noX X (twO E A M h) 0 0 4 [some (.ref (A 0)), some (.int (nI (mem))), some (.int (nI (tkF (M 1) mem m))), some (.int (nI (m)))] [] := by
    refine g_for _ 0 8 ?_ ?_
    · refine g_iload3 dX3_taken_4 ?_
      refine g_bipush (nI 8) dX3_taken_5 (by decide) ?_
      first | refine g_icmpN_ge (tgt := 43) dX3_taken_7 (by decide) (by omega) (by omega) (fun c_7 => ?_) (fun c_7 => ?_) | refine g_icmp_ge (tgt := 43) dX3_taken_7 (by decide) (fun c_7 => ?_) (fun c_7 => ?_)
      · refine g_iload2 dX3_taken_43 ?_
        exact g_iret dX3_taken_44 rfl ⟨_, rfl, rfl, rfl⟩
      · omega
    · intro m h0 hm ih
      have hp : 1 * 2 ^ m < 4294967296 := by have := Nat.pow_lt_pow_right (a := 2) (by decide) (show m < 31 by omega); omega
      refine g_iload3 dX3_taken_4 ?_
      refine g_bipush (nI 8) dX3_taken_5 (by decide) ?_
      first | refine g_icmpN_ge (tgt := 43) dX3_taken_7 (by decide) (by first | omega | exact hB _ _ | exact Nat.lt_of_le_of_lt (Nat.div_le_self _ _) (by omega)) (by first | omega | exact hB _ _ | exact Nat.lt_of_le_of_lt (Nat.div_le_self _ _) (by omega)) (fun c_7 => ?_) (fun c_7 => ?_) | refine g_icmp_ge (tgt := 43) dX3_taken_7 (by decide) (fun c_7 => ?_) (fun c_7 => ?_)
      · omega
      · refine g_iload2 dX3_taken_10 ?_
        refine g_iload1 dX3_taken_11 ?_
        refine g_iload3 dX3_taken_12 ?_
        refine g_ishrN dX3_taken_13 (by first | omega | exact hB _ _ | exact Nat.lt_of_le_of_lt (Nat.div_le_self _ _) (by omega)) (by first | omega | exact hB _ _ | exact Nat.lt_of_le_of_lt (Nat.div_le_self _ _) (by omega)) ?_
        refine g_iconst (nI 1) dX3_taken_14 (by decide) ?_
        refine g_iand1 dX3_taken_15 (by first | omega | exact hB _ _ | exact Nat.lt_of_le_of_lt (Nat.div_le_self _ _) (by omega)) ?_
        refine g_iconst (nI 1) dX3_taken_16 (by decide) ?_
        first | refine g_icmpN_ne (tgt := 34) dX3_taken_17 (by decide) (by first | omega | exact hB _ _ | exact Nat.lt_of_le_of_lt (Nat.div_le_self _ _) (by omega)) (by first | omega | exact hB _ _ | exact Nat.lt_of_le_of_lt (Nat.div_le_self _ _) (by omega)) (fun c_17 => ?_) (fun c_17 => ?_) | refine g_icmpU_ne (tgt := 34) dX3_taken_17 (by decide) (by first | omega | exact hB _ _ | exact Nat.lt_of_le_of_lt (Nat.div_le_self _ _) (by omega)) (by first | omega | exact hB _ _ | exact Nat.lt_of_le_of_lt (Nat.div_le_self _ _) (by omega)) (fun c_17 => ?_) (fun c_17 => ?_) | refine g_icmp_ne (tgt := 34) dX3_taken_17 (by decide) (fun c_17 => ?_) (fun c_17 => ?_)
        · refine g_iconst (nI 0) dX3_taken_34 (by decide) ?_
          first | refine g_iorN dX3_taken_35 ?_ | refine g_ior dX3_taken_35 ?_
          refine g_istore2 dX3_taken_36 (by decide) ?_
          first | refine g_iincN3 1 dX3_taken_37 (by decide) (by decide) ?_ | refine g_iinc3 _ dX3_taken_37 rfl (by decide) ?_
          refine g_goto (tgt := 4) dX3_taken_40 (by decide) ?_
          first | rw [show tkF (M 1) mem (m + 1) = tkF (M 1) mem m ||| (1 * 2 ^ m) from by rw [tkF, if_pos (by omega)]] at ih | rw [show tkF (M 1) mem (m + 1) = tkF (M 1) mem m ||| 0 from by rw [tkF, if_neg (by omega)]] at ih
          exact ih
        · first | refine g_aload0 dX3_taken_20 ?_ | refine g_aloadQ0 dX3_taken_20 ?_ | refine g_aloadN0 dX3_taken_20 ?_
          refine g_iload3 dX3_taken_21 ?_
          refine g_V1n0 (ctX3_isPresent hA _ _ hB (by omega)) kX3_isPresent q2204 tw_0 rfl rfl (by decide) ⟨rfl, rfl⟩ ⟨Nat.zero_le _, Nat.zero_le _⟩ (Nat.le_of_ble_eq_true rfl) dX3_taken_22 (fun r_22 h_22 p_22 => ?_)
          obtain ⟨hr_22, hi_22, rfl⟩ := p_22
          first | refine g_ifN_eq (tgt := 34) dX3_taken_25 (by decide) (by first | omega | exact hB _ _ | exact Nat.lt_of_le_of_lt (Nat.div_le_self _ _) (by omega)) (fun c_25 => ?_) (fun c_25 => ?_) | refine g_if_eq (tgt := 34) dX3_taken_25 (by decide) (fun c_25 => ?_) (fun c_25 => ?_)
          · refine g_iconst (nI 0) dX3_taken_34 (by decide) ?_
            first | refine g_iorN dX3_taken_35 ?_ | refine g_ior dX3_taken_35 ?_
            refine g_istore2 dX3_taken_36 (by decide) ?_
            first | refine g_iincN3 1 dX3_taken_37 (by decide) (by decide) ?_ | refine g_iinc3 _ dX3_taken_37 rfl (by decide) ?_
            refine g_goto (tgt := 4) dX3_taken_40 (by decide) ?_
            first | rw [show tkF (M 1) mem (m + 1) = tkF (M 1) mem m ||| (1 * 2 ^ m) from by rw [tkF, if_pos (by omega)]] at ih | rw [show tkF (M 1) mem (m + 1) = tkF (M 1) mem m ||| 0 from by rw [tkF, if_neg (by omega)]] at ih
            exact ih
          · refine g_iconst (nI 1) dX3_taken_28 (by decide) ?_
            refine g_iload3 dX3_taken_29 ?_
            refine g_ishlN dX3_taken_30 (by first | omega | exact hB _ _ | exact Nat.lt_of_le_of_lt (Nat.div_le_self _ _) (by omega)) (by first | omega | exact hB _ _ | exact Nat.lt_of_le_of_lt (Nat.div_le_self _ _) (by omega)) ?_
            refine g_goto (tgt := 35) dX3_taken_31 (by decide) ?_
            first | refine g_iorN dX3_taken_35 ?_ | refine g_ior dX3_taken_35 ?_
            refine g_istore2 dX3_taken_36 (by decide) ?_
            first | refine g_iincN3 1 dX3_taken_37 (by decide) (by decide) ?_ | refine g_iinc3 _ dX3_taken_37 rfl (by decide) ?_
            refine g_goto (tgt := 4) dX3_taken_40 (by decide) ?_
            first | rw [show tkF (M 1) mem (m + 1) = tkF (M 1) mem m ||| (1 * 2 ^ m) from by rw [tkF, if_pos (by omega)]] at ih | rw [show tkF (M 1) mem (m + 1) = tkF (M 1) mem m ||| 0 from by rw [tkF, if_neg (by omega)]] at ih
            exact ih
  refine g_iconst (nI 0) dX3_taken_0 (by decide) ?_
  refine g_istore2 dX3_taken_1 (by decide) ?_
  refine g_iconst (nI 0) dX3_taken_2 (by decide) ?_
  refine g_istore3 dX3_taken_3 (by decide) ?_
  exact L 0 (by omega) (by omega)
abbrev mX3_level : GM := (yX3_level, 3, none, [], { frames := 0, cells := 0, slots := 0, locals := 0 }, 255)
theorem kX3_level : gCv cX3_level mX3_level 2 := ⟨q2333, qs50, q90, q2334, ⟨by decide +kernel, by decide +kernel, by decide +kernel⟩, rfl⟩
set_option maxHeartbeats 400000 in
theorem ctX3_level {E : GE} {h : AH} {A : Nat → Nat} (hA : twA A) (M : TW) (c d : Nat) (hl : M 0 10 < 30) : Ct E cX3_level mX3_level [.ref (A 0), .int (nI c), .int (nI d)] (twO E A M h) (pV fun h' => h' = twO E A (tLv M c d) h) noX := by
  refine g_enter (own := "SecretVaultModel") [some (.ref (A 0)), some (.int (nI c)), some (.int (nI d))] (by decide +kernel) rfl rfl (Nat.le_of_ble_eq_true rfl) rfl rfl (fun X => ?_)
  first | refine g_aload0 dX3_level_0 ?_ | refine g_aloadQ0 dX3_level_0 ?_ | refine g_aloadN0 dX3_level_0 ?_
  refine t_get8 hA q2105 dX3_level_1 ?_
  first | refine g_aload0 dX3_level_4 ?_ | refine g_aloadQ0 dX3_level_4 ?_ | refine g_aloadN0 dX3_level_4 ?_
  refine t_get10 hA q2107 dX3_level_5 ?_
  refine g_iload1 dX3_level_8 ?_
  refine t_ast8 hA (by first | omega | exact hl) dX3_level_9 ?_
  first | refine g_aload0 dX3_level_10 ?_ | refine g_aloadQ0 dX3_level_10 ?_ | refine g_aloadN0 dX3_level_10 ?_
  refine t_get9 hA q2106 dX3_level_11 ?_
  first | refine g_aload0 dX3_level_14 ?_ | refine g_aloadQ0 dX3_level_14 ?_ | refine g_aloadN0 dX3_level_14 ?_
  refine t_get10 hA q2107 dX3_level_15 ?_
  refine g_iload2 dX3_level_18 ?_
  refine t_ast9 hA (by first | omega | exact hl) dX3_level_19 ?_
  first | refine g_aload0 dX3_level_20 ?_ | refine g_aloadQ0 dX3_level_20 ?_ | refine g_aloadN0 dX3_level_20 ?_
  refine g_dup dX3_level_21 rfl ?_
  refine t_get10 hA q2107 dX3_level_22 ?_
  refine g_iconst (nI 1) dX3_level_25 (by decide) ?_
  first | refine g_iaddN dX3_level_26 ?_ | refine g_iadd dX3_level_26 ?_
  refine t_put10 hA q2107 dX3_level_27 ?_
  exact g_vret dX3_level_30 rfl ⟨rfl, rfl⟩
abbrev mX3_count : GM := (yX3_count, 5, (some .int), [], { frames := 3, cells := 0, slots := 0, locals := 70 }, 255)
theorem kX3_count : gCv cX3_count mX3_count 2 := ⟨q2376, qs54, q90, q2377, ⟨by decide +kernel, by decide +kernel, by decide +kernel⟩, rfl⟩
set_option maxHeartbeats 400000 in
theorem ctX3_count {E : GE} {h : AH} {A : Nat → Nat} (hA : twA A) (M : TW) (s st : Nat) (hB : twB M) (hs : s < 4) (hst : st < 4294967296) (hS : slP (M 1) s) : Ct E cX3_count mX3_count [.ref (A 0), .int (nI s), .int (nI st)] (twO E A M h) (pN fun r h' => r = (cnF (M 1) s st 24) ∧ h' = twO E A M h) noX := by
  refine g_enter (own := "SecretVaultModel") [some (.ref (A 0)), some (.int (nI s)), some (.int (nI st)), none, none] (by decide +kernel) rfl rfl (Nat.le_of_ble_eq_true rfl) rfl rfl (fun X => ?_)
  have L : ∀ x, 0 ≤ x → x ≤ 24 → V E cX3_count "SecretVaultModel" mX3_count (pN fun r h' => r = (cnF (M 1) s st 24) ∧ h' = twO E A M h) noX X (twO E A M h) 0 0 5 [some (.ref (A 0)), some (.int (nI (s))), some (.int (nI (st))), some (.int (nI (cnF (M 1) s st x))), some (.int (nI (x + 1)))] [] := by
    refine g_for _ 0 24 ?_ ?_
    · refine g_iload4 dX3_count_5 ?_
      refine g_bipush (nI 24) dX3_count_7 (by decide) ?_
      first | refine g_icmpN_gt (tgt := 52) dX3_count_9 (by decide) (by omega) (by omega) (fun c_9 => ?_) (fun c_9 => ?_) | refine g_icmp_gt (tgt := 52) dX3_count_9 (by decide) (fun c_9 => ?_) (fun c_9 => ?_)
      · refine g_iload3 dX3_count_52 ?_
        exact g_iret dX3_count_53 rfl ⟨_, rfl, rfl, rfl⟩
      · omega
    · intro x h0 hx ih
      have hst2 := stF_lt (M 1) s (x + 1)
      refine g_iload4 dX3_count_5 ?_
      refine g_bipush (nI 24) dX3_count_7 (by decide) ?_
      first | refine g_icmpN_gt (tgt := 52) dX3_count_9 (by decide) (by omega) (by omega) (fun c_9 => ?_) (fun c_9 => ?_) | refine g_icmp_gt (tgt := 52) dX3_count_9 (by decide) (fun c_9 => ?_) (fun c_9 => ?_)
      · omega
      · refine g_iload3 dX3_count_12 ?_
        first | refine g_aload0 dX3_count_13 ?_ | refine g_aloadQ0 dX3_count_13 ?_ | refine g_aloadN0 dX3_count_13 ?_
        refine g_iload1 dX3_count_14 ?_
        refine g_iload4 dX3_count_15 ?_
        refine g_V2n0 (ctX3_hasShare hA _ _ _ hB (by omega) (by omega)) kX3_hasShare q2212 tw_0 rfl rfl (by decide) ⟨rfl, rfl⟩ ⟨Nat.zero_le _, Nat.zero_le _⟩ (Nat.le_of_ble_eq_true rfl) dX3_count_17 (fun r_17 h_17 p_17 => ?_)
        obtain ⟨hr_17, hi_17, rfl⟩ := p_17
        first | refine g_ifN_eq (tgt := 43) dX3_count_20 (by decide) (by omega) (fun c_20 => ?_) (fun c_20 => ?_) | refine g_if_eq (tgt := 43) dX3_count_20 (by decide) (fun c_20 => ?_) (fun c_20 => ?_)
        · refine g_iconst (nI 0) dX3_count_43 (by decide) ?_
          first | refine g_iaddN dX3_count_44 ?_ | refine g_iadd dX3_count_44 ?_
          refine g_istore3 dX3_count_45 (by decide) ?_
          first | refine g_iincN4 1 dX3_count_46 (by decide) (by decide) ?_ | refine g_iinc4 _ dX3_count_46 rfl (by decide) ?_
          refine g_goto (tgt := 5) dX3_count_49 (by decide) ?_
          first | rw [show cnF (M 1) s st (x + 1) = cnF (M 1) s st x + 1 from by rw [cnF, if_pos (by omega)]] at ih | rw [show cnF (M 1) s st (x + 1) = cnF (M 1) s st x + 0 from by rw [cnF, if_neg (by omega)]] at ih
          exact ih
        · refine g_iload2 dX3_count_23 ?_
          refine g_iconst (nI 4294967295) dX3_count_24 (by decide) ?_
          first | refine g_icmpN_eq (tgt := 39) dX3_count_25 (by decide) (by omega) (by omega) (fun c_25 => ?_) (fun c_25 => ?_) | refine g_icmpU_eq (tgt := 39) dX3_count_25 (by decide) (by omega) (by omega) (fun c_25 => ?_) (fun c_25 => ?_) | refine g_icmp_eq (tgt := 39) dX3_count_25 (by decide) (fun c_25 => ?_) (fun c_25 => ?_)
          · refine g_iconst (nI 1) dX3_count_39 (by decide) ?_
            refine g_goto (tgt := 44) dX3_count_40 (by decide) ?_
            first | refine g_iaddN dX3_count_44 ?_ | refine g_iadd dX3_count_44 ?_
            refine g_istore3 dX3_count_45 (by decide) ?_
            first | refine g_iincN4 1 dX3_count_46 (by decide) (by decide) ?_ | refine g_iinc4 _ dX3_count_46 rfl (by decide) ?_
            refine g_goto (tgt := 5) dX3_count_49 (by decide) ?_
            first | rw [show cnF (M 1) s st (x + 1) = cnF (M 1) s st x + 1 from by rw [cnF, if_pos (by omega)]] at ih | rw [show cnF (M 1) s st (x + 1) = cnF (M 1) s st x + 0 from by rw [cnF, if_neg (by omega)]] at ih
            exact ih
          · first | refine g_aload0 dX3_count_28 ?_ | refine g_aloadQ0 dX3_count_28 ?_ | refine g_aloadN0 dX3_count_28 ?_
            refine g_iload1 dX3_count_29 ?_
            refine g_iload4 dX3_count_30 ?_
            refine g_V2n0 (ctX3_stateOf hA _ _ _ hB (by omega) (by omega) hS) kX3_stateOf q2224 tw_0 rfl rfl (by decide) ⟨rfl, rfl⟩ ⟨Nat.zero_le _, Nat.zero_le _⟩ (Nat.le_of_ble_eq_true rfl) dX3_count_32 (fun r_32 h_32 p_32 => ?_)
            obtain ⟨hi_32, rfl⟩ := p_32
            refine g_iload2 dX3_count_35 ?_
            first | refine g_icmpN_ne (tgt := 43) dX3_count_36 (by decide) (by omega) (by omega) (fun c_36 => ?_) (fun c_36 => ?_) | refine g_icmpU_ne (tgt := 43) dX3_count_36 (by decide) (by omega) (by omega) (fun c_36 => ?_) (fun c_36 => ?_) | refine g_icmp_ne (tgt := 43) dX3_count_36 (by decide) (fun c_36 => ?_) (fun c_36 => ?_)
            · refine g_iconst (nI 0) dX3_count_43 (by decide) ?_
              first | refine g_iaddN dX3_count_44 ?_ | refine g_iadd dX3_count_44 ?_
              refine g_istore3 dX3_count_45 (by decide) ?_
              first | refine g_iincN4 1 dX3_count_46 (by decide) (by decide) ?_ | refine g_iinc4 _ dX3_count_46 rfl (by decide) ?_
              refine g_goto (tgt := 5) dX3_count_49 (by decide) ?_
              first | rw [show cnF (M 1) s st (x + 1) = cnF (M 1) s st x + 1 from by rw [cnF, if_pos (by omega)]] at ih | rw [show cnF (M 1) s st (x + 1) = cnF (M 1) s st x + 0 from by rw [cnF, if_neg (by omega)]] at ih
              exact ih
            · refine g_iconst (nI 1) dX3_count_39 (by decide) ?_
              refine g_goto (tgt := 44) dX3_count_40 (by decide) ?_
              first | refine g_iaddN dX3_count_44 ?_ | refine g_iadd dX3_count_44 ?_
              refine g_istore3 dX3_count_45 (by decide) ?_
              first | refine g_iincN4 1 dX3_count_46 (by decide) (by decide) ?_ | refine g_iinc4 _ dX3_count_46 rfl (by decide) ?_
              refine g_goto (tgt := 5) dX3_count_49 (by decide) ?_
              first | rw [show cnF (M 1) s st (x + 1) = cnF (M 1) s st x + 1 from by rw [cnF, if_pos (by omega)]] at ih | rw [show cnF (M 1) s st (x + 1) = cnF (M 1) s st x + 0 from by rw [cnF, if_neg (by omega)]] at ih
              exact ih
  refine g_iconst (nI 0) dX3_count_0 (by decide) ?_
  refine g_istore3 dX3_count_1 (by decide) ?_
  refine g_iconst (nI 1) dX3_count_2 (by decide) ?_
  refine g_istore4 dX3_count_3 (by decide) ?_
  exact L 0 (by omega) (by omega)
abbrev mX3_lacksSet : GM := (yX3_lacksSet, 3, (some .int), [], { frames := 2, cells := 0, slots := 0, locals := 42 }, 255)
theorem kX3_lacksSet : gCv cX3_lacksSet mX3_lacksSet 2 := ⟨q2364, qs53, q90, q2365, ⟨by decide +kernel, by decide +kernel, by decide +kernel⟩, rfl⟩
set_option maxHeartbeats 400000 in
theorem ctX3_lacksSet {E : GE} {h : AH} {A : Nat → Nat} (hA : twA A) (M : TW) (s mem : Nat) (hB : twB M) (hs : s < 4294967296) (hm : mem < 4294967296) : Ct E cX3_lacksSet mX3_lacksSet [.ref (A 0), .int (nI s), .int (nI mem)] (twO E A M h) (pN fun r h' => (r = 1 ∧ ¬ s ≤ 3 ∨ r = 2 ∧ s ≤ 3 ∧ ¬ mem ≤ 255 ∨ r = 3 ∧ s ≤ 3 ∧ mem ≤ 255 ∧ gOf (M 1) s 0 = 0 ∨ r = 0 ∧ s ≤ 3 ∧ mem ≤ 255 ∧ ¬ gOf (M 1) s 0 = 0) ∧ h' = twO E A M h) noX := by
  refine g_enter (own := "SecretVaultModel") [some (.ref (A 0)), some (.int (nI s)), some (.int (nI mem))] (by decide +kernel) rfl rfl (Nat.le_of_ble_eq_true rfl) rfl rfl (fun X => ?_)
  refine g_iload1 dX3_lacksSet_0 ?_
  refine g_S1n0 (ctX3_isSlot _ (by omega)) kX3_isSlot q2235 (by decide) ⟨rfl, rfl⟩ ⟨Nat.zero_le _, Nat.zero_le _⟩ (Nat.le_of_ble_eq_true rfl) dX3_lacksSet_1 (fun r_1 h_1 p_1 => ?_)
  obtain ⟨hr_1, hi_1, rfl⟩ := p_1
  first | refine g_ifN_ne (tgt := 11) dX3_lacksSet_4 (by decide) (by first | omega | exact hB _ _) (fun c_4 => ?_) (fun c_4 => ?_) | refine g_if_ne (tgt := 11) dX3_lacksSet_4 (by decide) (fun c_4 => ?_) (fun c_4 => ?_)
  · refine g_iload2 dX3_lacksSet_11 ?_
    refine g_S1n0 (ctX3_isSet _ (by omega)) kX3_isSet q2289 (by decide) ⟨rfl, rfl⟩ ⟨Nat.zero_le _, Nat.zero_le _⟩ (Nat.le_of_ble_eq_true rfl) dX3_lacksSet_12 (fun r_12 h_12 p_12 => ?_)
    obtain ⟨hr_12, hi_12, rfl⟩ := p_12
    first | refine g_ifN_ne (tgt := 22) dX3_lacksSet_15 (by decide) (by first | omega | exact hB _ _) (fun c_15 => ?_) (fun c_15 => ?_) | refine g_if_ne (tgt := 22) dX3_lacksSet_15 (by decide) (fun c_15 => ?_) (fun c_15 => ?_)
    · first | refine g_aload0 dX3_lacksSet_22 ?_ | refine g_aloadQ0 dX3_lacksSet_22 ?_ | refine g_aloadN0 dX3_lacksSet_22 ?_
      refine g_iload1 dX3_lacksSet_23 ?_
      refine g_iconst (nI 0) dX3_lacksSet_24 (by decide) ?_
      refine g_V2n0 (ctX3_of hA _ _ _ (by omega) (by omega)) kX3_of q2220 tw_0 rfl rfl (by decide) ⟨rfl, rfl⟩ ⟨Nat.zero_le _, Nat.zero_le _⟩ (Nat.le_of_ble_eq_true rfl) dX3_lacksSet_25 (fun r_25 h_25 p_25 => ?_)
      obtain ⟨rfl, rfl⟩ := p_25
      first | refine g_ifN_ne (tgt := 35) dX3_lacksSet_28 (by decide) (by first | omega | exact hB _ _) (fun c_28 => ?_) (fun c_28 => ?_) | refine g_if_ne (tgt := 35) dX3_lacksSet_28 (by decide) (fun c_28 => ?_) (fun c_28 => ?_)
      · refine g_iconst (nI 0) dX3_lacksSet_35 (by decide) ?_
        exact g_iret dX3_lacksSet_36 rfl ⟨_, rfl, by omega, rfl⟩
      · refine g_iconst (nI 3) dX3_lacksSet_31 (by decide) ?_
        refine g_goto (tgt := 36) dX3_lacksSet_32 (by decide) ?_
        exact g_iret dX3_lacksSet_36 rfl ⟨_, rfl, by omega, rfl⟩
    · refine g_iconst (nI 2) dX3_lacksSet_18 (by decide) ?_
      refine g_goto (tgt := 36) dX3_lacksSet_19 (by decide) ?_
      exact g_iret dX3_lacksSet_36 rfl ⟨_, rfl, by omega, rfl⟩
  · refine g_iconst (nI 1) dX3_lacksSet_7 (by decide) ?_
    refine g_goto (tgt := 36) dX3_lacksSet_8 (by decide) ?_
    exact g_iret dX3_lacksSet_36 rfl ⟨_, rfl, by omega, rfl⟩
abbrev mX3_secrets : GM := (yX3_secrets, 3, (some .int), [], { frames := 1, cells := 0, slots := 0, locals := 22 }, 255)
theorem kX3_secrets : gCv cX3_secrets mX3_secrets 0 := ⟨q2527, qs65, q90, q2528, ⟨by decide +kernel, by decide +kernel, by decide +kernel⟩, rfl⟩
set_option maxHeartbeats 400000 in
theorem ctX3_secrets {E : GE} {h : AH} {A : Nat → Nat} (hA : twA A) (M : TW)   : Ct E cX3_secrets mX3_secrets [.ref (A 0)] (twO E A M h) (pN fun r h' => r = (seF (M 1) 4) ∧ h' = twO E A M h) noX := by
  refine g_enter (own := "SecretVaultModel") [some (.ref (A 0)), none, none] (by decide +kernel) rfl rfl (Nat.le_of_ble_eq_true rfl) rfl rfl (fun X => ?_)
  have L : ∀ s, 0 ≤ s → s ≤ 4 → V E cX3_secrets "SecretVaultModel" mX3_secrets (pN fun r h' => r = (seF (M 1) 4) ∧ h' = twO E A M h) noX X (twO E A M h) 0 0 4 [some (.ref (A 0)), some (.int (nI (seF (M 1) s))), some (.int (nI (s)))] [] := by
    refine g_for _ 0 4 ?_ ?_
    · refine g_iload2 dX3_secrets_4 ?_
      refine g_iconst (nI 4) dX3_secrets_5 (by decide) ?_
      first | refine g_icmpN_ge (tgt := 24) dX3_secrets_6 (by decide) (by omega) (by omega) (fun c_6 => ?_) (fun c_6 => ?_) | refine g_icmp_ge (tgt := 24) dX3_secrets_6 (by decide) (fun c_6 => ?_) (fun c_6 => ?_)
      · refine g_iload1 dX3_secrets_24 ?_
        exact g_iret dX3_secrets_25 rfl ⟨_, rfl, rfl, rfl⟩
      · omega
    · intro s h0 hs ih
      refine g_iload2 dX3_secrets_4 ?_
      refine g_iconst (nI 4) dX3_secrets_5 (by decide) ?_
      first | refine g_icmpN_ge (tgt := 24) dX3_secrets_6 (by decide) (by omega) (by omega) (fun c_6 => ?_) (fun c_6 => ?_) | refine g_icmp_ge (tgt := 24) dX3_secrets_6 (by decide) (fun c_6 => ?_) (fun c_6 => ?_)
      · omega
      · refine g_iload1 dX3_secrets_9 ?_
        first | refine g_aload0 dX3_secrets_10 ?_ | refine g_aloadQ0 dX3_secrets_10 ?_ | refine g_aloadN0 dX3_secrets_10 ?_
        refine g_iload2 dX3_secrets_11 ?_
        refine g_iconst (nI 0) dX3_secrets_12 (by decide) ?_
        refine g_V2n0 (ctX3_of hA _ _ _ (by omega) (by omega)) kX3_of q2220 tw_0 rfl rfl (by decide) ⟨rfl, rfl⟩ ⟨Nat.zero_le _, Nat.zero_le _⟩ (Nat.le_of_ble_eq_true rfl) dX3_secrets_13 (fun r_13 h_13 p_13 => ?_)
        obtain ⟨rfl, rfl⟩ := p_13
        first | refine g_iaddN dX3_secrets_16 ?_ | refine g_iadd dX3_secrets_16 ?_
        refine g_istore1 dX3_secrets_17 (by decide) ?_
        first | refine g_iincN2 1 dX3_secrets_18 (by decide) (by decide) ?_ | refine g_iinc2 _ dX3_secrets_18 rfl (by decide) ?_
        refine g_goto (tgt := 4) dX3_secrets_21 (by decide) ?_
        exact ih
  refine g_iconst (nI 0) dX3_secrets_0 (by decide) ?_
  refine g_istore1 dX3_secrets_1 (by decide) ?_
  refine g_iconst (nI 0) dX3_secrets_2 (by decide) ?_
  refine g_istore2 dX3_secrets_3 (by decide) ?_
  exact L 0 (by omega) (by omega)
abbrev mX3_save : GM := (yX3_save, 2, (some .int), [], { frames := 2, cells := 0, slots := 0, locals := 44 }, 255)
theorem kX3_save : gCv cX3_save mX3_save 0 := ⟨q2522, q2523, q90, q2524, ⟨by decide +kernel, by decide +kernel, by decide +kernel⟩, rfl⟩
def xc_save (M : TW)  : Nat := 0
def xv_save (M : TW)  : Nat := seF (M 1) 4
def xm_save (M : TW)  : TW := tCp (tset M 0 3 1) 1 2 534
set_option maxHeartbeats 400000 in
theorem ctX3_save {E : GE} {h : AH} {A : Nat → Nat} (hA : twA A) (M : TW)   : Ct E cX3_save mX3_save [.ref (A 0)] (twO E A M h) (pN fun r h' => tEnd E A h (xc_save M ) (xv_save M ) (xm_save M ) r h') noX := by
  refine g_enter (own := "SecretVaultModel") [some (.ref (A 0)), none] (by decide +kernel) rfl rfl (Nat.le_of_ble_eq_true rfl) rfl rfl (fun X => ?_)
  have L : ∀ i, 0 ≤ i → i ≤ 534 → V E cX3_save "SecretVaultModel" mX3_save (pN fun r h' => tEnd E A h (xc_save M ) (xv_save M ) (xm_save M ) r h') noX X (twO E A (tCp (tset M 0 3 1) 1 2 i) h) 0 0 7 [some (.ref (A 0)), some (.int (nI (i)))] [] := by
    refine g_for _ 0 534 ?_ ?_
    · refine g_iload1 dX3_save_7 ?_
      refine g_sipush (nI 534) dX3_save_8 (by decide) ?_
      first | refine g_icmpN_ge (tgt := 32) dX3_save_11 (by decide) (by first | omega | exact hB _ _ | (split <;> omega)) (by first | omega | exact hB _ _ | (split <;> omega)) (fun c_11 => ?_) (fun c_11 => ?_) | refine g_icmp_ge (tgt := 32) dX3_save_11 (by decide) (fun c_11 => ?_) (fun c_11 => ?_)
      · first | refine g_aload0 dX3_save_32 ?_ | refine g_aloadQ0 dX3_save_32 ?_ | refine g_aloadN0 dX3_save_32 ?_
        first | refine g_aload0 dX3_save_33 ?_ | refine g_aloadQ0 dX3_save_33 ?_ | refine g_aloadN0 dX3_save_33 ?_
        refine g_V0n0 (ctX3_secrets hA _ ) kX3_secrets q2525 tw_0 rfl rfl (by decide) ⟨rfl, rfl⟩ ⟨Nat.zero_le _, Nat.zero_le _⟩ (Nat.le_of_ble_eq_true rfl) dX3_save_34 (fun r_34 h_34 p_34 => ?_)
        obtain ⟨hi_34, rfl⟩ := p_34
        refine g_V1n0 (ctX3_done hA _ _) kX3_done q2173 tw_0 rfl rfl (by decide) ⟨rfl, rfl⟩ ⟨Nat.zero_le _, Nat.zero_le _⟩ (Nat.le_of_ble_eq_true rfl) dX3_save_37 (fun r_37 h_37 p_37 => ?_)
        obtain ⟨rfl, rfl⟩ := p_37
        exact g_iret dX3_save_40 rfl ⟨_, rfl, t_done (by unfold xc_save; (repeat' split) <;> omega) (by unfold xv_save; exact hi_34) (by unfold xm_save; exact tSame.rf)⟩
      · omega
    · intro i h0 hi ih
      refine g_iload1 dX3_save_7 ?_
      refine g_sipush (nI 534) dX3_save_8 (by decide) ?_
      first | refine g_icmpN_ge (tgt := 32) dX3_save_11 (by decide) (by first | omega | exact hB _ _ | (split <;> omega)) (by first | omega | exact hB _ _ | (split <;> omega)) (fun c_11 => ?_) (fun c_11 => ?_) | refine g_icmp_ge (tgt := 32) dX3_save_11 (by decide) (fun c_11 => ?_) (fun c_11 => ?_)
      · omega
      · first | refine g_aload0 dX3_save_14 ?_ | refine g_aloadQ0 dX3_save_14 ?_ | refine g_aloadN0 dX3_save_14 ?_
        refine t_get2 hA q2100 dX3_save_15 ?_
        refine g_iload1 dX3_save_18 ?_
        first | refine g_aload0 dX3_save_19 ?_ | refine g_aloadQ0 dX3_save_19 ?_ | refine g_aloadN0 dX3_save_19 ?_
        refine t_get1 hA q2099 dX3_save_20 ?_
        refine g_iload1 dX3_save_23 ?_
        refine t_ald1 hA (by first | omega | exact hB _ _ | (split <;> omega)) dX3_save_24 ?_
        refine t_ast2 hA (by first | omega | exact hB _ _ | (split <;> omega)) dX3_save_25 ?_
        first | refine g_iincN1 1 dX3_save_26 (by decide) (by decide) ?_ | refine g_iinc1 _ dX3_save_26 rfl (by decide) ?_
        refine g_goto (tgt := 7) dX3_save_29 (by decide) ?_
        rw [tCp_s _ _ _ _ (by decide)]
        exact ih
  first | refine g_aload0 dX3_save_0 ?_ | refine g_aloadQ0 dX3_save_0 ?_ | refine g_aloadN0 dX3_save_0 ?_
  refine g_iconst (nI 1) dX3_save_1 (by decide) ?_
  refine t_put3 hA q2101 (by first | omega | exact hB _ _ | (split <;> omega)) dX3_save_2 ?_
  refine g_iconst (nI 0) dX3_save_5 (by decide) ?_
  refine g_istore1 dX3_save_6 (by decide) ?_
  have L0 := L 0 (by omega) (by omega)
  rw [tCp_0] at L0
  exact L0
abbrev mX3_restore : GM := (yX3_restore, 2, (some .int), [], { frames := 2, cells := 0, slots := 0, locals := 44 }, 255)
theorem kX3_restore : gCv cX3_restore mX3_restore 0 := ⟨q2530, q2531, q90, q2532, ⟨by decide +kernel, by decide +kernel, by decide +kernel⟩, rfl⟩
def xc_restore (M : TW)  : Nat := if M 0 3 = 0 then 1 else 0
def xv_restore (M : TW)  : Nat := seF (tCp M 2 1 534 1) 4
def xm_restore (M : TW)  : TW := if M 0 3 = 0 then M else tCp M 2 1 534
set_option maxHeartbeats 400000 in
theorem ctX3_restore {E : GE} {h : AH} {A : Nat → Nat} (hA : twA A) (M : TW)  (hB : twB M) : Ct E cX3_restore mX3_restore [.ref (A 0)] (twO E A M h) (pN fun r h' => tEnd E A h (xc_restore M ) (xv_restore M ) (xm_restore M ) r h') noX := by
  refine g_enter (own := "SecretVaultModel") [some (.ref (A 0)), none] (by decide +kernel) rfl rfl (Nat.le_of_ble_eq_true rfl) rfl rfl (fun X => ?_)
  have L : ∀ i, 0 ≤ i → i ≤ 534 → ¬ M 0 3 = 0 → V E cX3_restore "SecretVaultModel" mX3_restore (pN fun r h' => tEnd E A h (xc_restore M ) (xv_restore M ) (xm_restore M ) r h') noX X (twO E A (tCp M 2 1 i) h) 0 0 15 [some (.ref (A 0)), some (.int (nI (i)))] [] := by
    intro i h0 h1 hn
    refine g_for (fun i => V E cX3_restore "SecretVaultModel" mX3_restore (pN fun r h' => tEnd E A h (xc_restore M ) (xv_restore M ) (xm_restore M ) r h') noX X (twO E A (tCp M 2 1 i) h) 0 0 15 [some (.ref (A 0)), some (.int (nI (i)))] []) 0 534 ?_ ?_ i h0 h1
    · refine g_iload1 dX3_restore_15 ?_
      refine g_sipush (nI 534) dX3_restore_16 (by decide) ?_
      first | refine g_icmpN_ge (tgt := 40) dX3_restore_19 (by decide) (by first | omega | exact hB _ _ | (split <;> omega)) (by first | omega | exact hB _ _ | (split <;> omega)) (fun c_19 => ?_) (fun c_19 => ?_) | refine g_icmp_ge (tgt := 40) dX3_restore_19 (by decide) (fun c_19 => ?_) (fun c_19 => ?_)
      · first | refine g_aload0 dX3_restore_40 ?_ | refine g_aloadQ0 dX3_restore_40 ?_ | refine g_aloadN0 dX3_restore_40 ?_
        first | refine g_aload0 dX3_restore_41 ?_ | refine g_aloadQ0 dX3_restore_41 ?_ | refine g_aloadN0 dX3_restore_41 ?_
        refine g_V0n0 (ctX3_secrets hA _ ) kX3_secrets q2525 tw_0 rfl rfl (by decide) ⟨rfl, rfl⟩ ⟨Nat.zero_le _, Nat.zero_le _⟩ (Nat.le_of_ble_eq_true rfl) dX3_restore_42 (fun r_42 h_42 p_42 => ?_)
        obtain ⟨hi_42, rfl⟩ := p_42
        refine g_V1n0 (ctX3_done hA _ _) kX3_done q2173 tw_0 rfl rfl (by decide) ⟨rfl, rfl⟩ ⟨Nat.zero_le _, Nat.zero_le _⟩ (Nat.le_of_ble_eq_true rfl) dX3_restore_45 (fun r_45 h_45 p_45 => ?_)
        obtain ⟨rfl, rfl⟩ := p_45
        exact g_iret dX3_restore_48 rfl ⟨_, rfl, t_done (by unfold xc_restore; (repeat' split) <;> omega) (by unfold xv_restore; exact hi_42) (by unfold xm_restore; rw [if_neg (by omega)]; exact tSame.rf)⟩
      · omega
    · intro i h0 hi ih
      refine g_iload1 dX3_restore_15 ?_
      refine g_sipush (nI 534) dX3_restore_16 (by decide) ?_
      first | refine g_icmpN_ge (tgt := 40) dX3_restore_19 (by decide) (by first | omega | exact hB _ _ | (split <;> omega)) (by first | omega | exact hB _ _ | (split <;> omega)) (fun c_19 => ?_) (fun c_19 => ?_) | refine g_icmp_ge (tgt := 40) dX3_restore_19 (by decide) (fun c_19 => ?_) (fun c_19 => ?_)
      · omega
      · first | refine g_aload0 dX3_restore_22 ?_ | refine g_aloadQ0 dX3_restore_22 ?_ | refine g_aloadN0 dX3_restore_22 ?_
        refine t_get1 hA q2099 dX3_restore_23 ?_
        refine g_iload1 dX3_restore_26 ?_
        first | refine g_aload0 dX3_restore_27 ?_ | refine g_aloadQ0 dX3_restore_27 ?_ | refine g_aloadN0 dX3_restore_27 ?_
        refine t_get2 hA q2100 dX3_restore_28 ?_
        refine g_iload1 dX3_restore_31 ?_
        refine t_ald2 hA (by first | omega | exact hB _ _ | (split <;> omega)) dX3_restore_32 ?_
        refine t_ast1 hA (by first | omega | exact hB _ _ | (split <;> omega)) dX3_restore_33 ?_
        first | refine g_iincN1 1 dX3_restore_34 (by decide) (by decide) ?_ | refine g_iinc1 _ dX3_restore_34 rfl (by decide) ?_
        refine g_goto (tgt := 15) dX3_restore_37 (by decide) ?_
        rw [tCp_s _ _ _ _ (by decide)]
        exact ih
  first | refine g_aload0 dX3_restore_0 ?_ | refine g_aloadQ0 dX3_restore_0 ?_ | refine g_aloadN0 dX3_restore_0 ?_
  refine t_get3 hA q2101 dX3_restore_1 ?_
  first | refine g_ifN_ne (tgt := 13) dX3_restore_4 (by decide) (by first | omega | exact hB _ _ | (split <;> omega)) (fun c_4 => ?_) (fun c_4 => ?_) | refine g_if_ne (tgt := 13) dX3_restore_4 (by decide) (fun c_4 => ?_) (fun c_4 => ?_)
  · refine g_iconst (nI 0) dX3_restore_13 (by decide) ?_
    refine g_istore1 dX3_restore_14 (by decide) ?_
    have L0 := L 0 (by omega) (by omega) (by omega)
    rw [tCp_0] at L0
    exact L0
  · first | refine g_aload0 dX3_restore_7 ?_ | refine g_aloadQ0 dX3_restore_7 ?_ | refine g_aloadN0 dX3_restore_7 ?_
    refine g_iconst (nI 1) dX3_restore_8 (by decide) ?_
    refine g_V1n0 (ctX3_fails hA _ _) kX3_fails q2196 tw_0 rfl rfl (by decide) ⟨rfl, rfl⟩ ⟨Nat.zero_le _, Nat.zero_le _⟩ (Nat.le_of_ble_eq_true rfl) dX3_restore_9 (fun r_9 h_9 p_9 => ?_)
    obtain ⟨rfl, rfl⟩ := p_9
    exact g_iret dX3_restore_12 rfl ⟨_, rfl, t_fails (by unfold xc_restore; (repeat' split) <;> omega) (by omega) (by unfold xm_restore; rw [if_pos (by omega)]; exact tSame.rf)⟩
abbrev mX3_expel : GM := (yX3_expel, 5, (some .int), [], { frames := 3, cells := 0, slots := 0, locals := 67 }, 255)
theorem kX3_expel : gCv cX3_expel mX3_expel 2 := ⟨q2351, q2352, q90, q2353, ⟨by decide +kernel, by decide +kernel, by decide +kernel⟩, rfl⟩
def xc_expel (M : TW) (s m : Nat) : Nat := if ¬ s ≤ 3 ∨ ¬ m ≤ 7 then 1 else if gOf (M 1) s 0 = 0 then 2 else 0
def xv_expel (M : TW) (s m : Nat) : Nat := exN M s m 3
def xm_expel (M : TW) (s m : Nat) : TW := if s ≤ 3 ∧ m ≤ 7 ∧ ¬ gOf (M 1) s 0 = 0 then tEv (exP M s m 3) (600 + 10 * s + m) else M
set_option maxHeartbeats 400000 in
theorem ctX3_expel {E : GE} {h : AH} {A : Nat → Nat} (hA : twA A) (M : TW) (s m : Nat) (hW : tWF M) (hs : s < 4294967296) (hm : m < 4294967296) : Ct E cX3_expel mX3_expel [.ref (A 0), .int (nI s), .int (nI m)] (twO E A M h) (pN fun r h' => tEnd E A h (xc_expel M s m ) (xv_expel M s m ) (xm_expel M s m ) r h') noX := by
  refine g_enter (own := "SecretVaultModel") [some (.ref (A 0)), some (.int (nI s)), some (.int (nI m)), none, none] (by decide +kernel) rfl rfl (Nat.le_of_ble_eq_true rfl) rfl rfl (fun X => ?_)
  have hB := hW.1
  have L : ∀ i, 0 ≤ i → i ≤ 3 → s ≤ 3 → m ≤ 7 → ¬ gOf (M 1) s 0 = 0 → V E cX3_expel "SecretVaultModel" mX3_expel (pN fun r h' => tEnd E A h (xc_expel M s m ) (xv_expel M s m ) (xm_expel M s m ) r h') noX X (twO E A (exP M s m i) h) 0 0 44 [some (.ref (A 0)), some (.int (nI (s))), some (.int (nI (m))), some (.int (nI (exN M s m i))), some (.int (nI (3 * m + 1 + i)))] [] := by
    intro i h0 h1 hs3 hm7 hh
    refine g_for (fun i => V E cX3_expel "SecretVaultModel" mX3_expel (pN fun r h' => tEnd E A h (xc_expel M s m ) (xv_expel M s m ) (xm_expel M s m ) r h') noX X (twO E A (exP M s m i) h) 0 0 44 [some (.ref (A 0)), some (.int (nI (s))), some (.int (nI (m))), some (.int (nI (exN M s m i))), some (.int (nI (3 * m + 1 + i)))] []) 0 3 ?_ ?_ i h0 h1
    · refine g_iload4 dX3_expel_44 ?_
      refine g_iconst (nI 3) dX3_expel_46 (by decide) ?_
      refine g_iload2 dX3_expel_47 ?_
      first | refine g_imulN dX3_expel_48 ?_ | refine g_imul dX3_expel_48 ?_
      refine g_iconst (nI 3) dX3_expel_49 (by decide) ?_
      first | refine g_iaddN dX3_expel_50 ?_ | refine g_iadd dX3_expel_50 ?_
      first | refine g_icmpN_gt (tgt := 85) dX3_expel_51 (by decide) (by first | omega | exact hB _ _ | (split <;> omega)) (by first | omega | exact hB _ _ | (split <;> omega)) (fun c_51 => ?_) (fun c_51 => ?_) | refine g_icmp_gt (tgt := 85) dX3_expel_51 (by decide) (fun c_51 => ?_) (fun c_51 => ?_)
      · have hE : exP M s m 3 1 17 ≤ 20 := by rw [exP_g _ _ _ _ _ (by decide)]; exact hW.2.2.2.1
        first | refine g_aload0 dX3_expel_85 ?_ | refine g_aloadQ0 dX3_expel_85 ?_ | refine g_aloadN0 dX3_expel_85 ?_
        refine g_sipush (nI 600) dX3_expel_86 (by decide) ?_
        refine g_bipush (nI 10) dX3_expel_89 (by decide) ?_
        refine g_iload1 dX3_expel_91 ?_
        first | refine g_imulN dX3_expel_92 ?_ | refine g_imul dX3_expel_92 ?_
        first | refine g_iaddN dX3_expel_93 ?_ | refine g_iadd dX3_expel_93 ?_
        refine g_iload2 dX3_expel_94 ?_
        first | refine g_iaddN dX3_expel_95 ?_ | refine g_iadd dX3_expel_95 ?_
        refine g_V1v0 (ctX3_happens hA _ _ hE) kX3_happens q2269 tw_0 rfl rfl (by decide) ⟨rfl, rfl⟩ ⟨Nat.zero_le _, Nat.zero_le _⟩ (Nat.le_of_ble_eq_true rfl) dX3_expel_96 (fun h_96 p_96 => ?_)
        subst p_96
        first | refine g_aload0 dX3_expel_99 ?_ | refine g_aloadQ0 dX3_expel_99 ?_ | refine g_aloadN0 dX3_expel_99 ?_
        refine g_iload3 dX3_expel_100 ?_
        refine g_V1n0 (ctX3_done hA _ _) kX3_done q2173 tw_0 rfl rfl (by decide) ⟨rfl, rfl⟩ ⟨Nat.zero_le _, Nat.zero_le _⟩ (Nat.le_of_ble_eq_true rfl) dX3_expel_101 (fun r_101 h_101 p_101 => ?_)
        obtain ⟨rfl, rfl⟩ := p_101
        exact g_iret dX3_expel_104 rfl ⟨_, rfl, t_done (by unfold xc_expel; (repeat' split) <;> omega) (by unfold xv_expel; rfl) (by unfold xm_expel; rw [if_pos (by omega)]; exact tSame.rf)⟩
      · omega
    · intro i h0 hi ih
      have hBx : twB (exP M s m i) := twB_exP hB
      refine g_iload4 dX3_expel_44 ?_
      refine g_iconst (nI 3) dX3_expel_46 (by decide) ?_
      refine g_iload2 dX3_expel_47 ?_
      first | refine g_imulN dX3_expel_48 ?_ | refine g_imul dX3_expel_48 ?_
      refine g_iconst (nI 3) dX3_expel_49 (by decide) ?_
      first | refine g_iaddN dX3_expel_50 ?_ | refine g_iadd dX3_expel_50 ?_
      first | refine g_icmpN_gt (tgt := 85) dX3_expel_51 (by decide) (by first | omega | exact hB _ _ | (split <;> omega)) (by first | omega | exact hB _ _ | (split <;> omega)) (fun c_51 => ?_) (fun c_51 => ?_) | refine g_icmp_gt (tgt := 85) dX3_expel_51 (by decide) (fun c_51 => ?_) (fun c_51 => ?_)
      · omega
      · refine g_iload3 dX3_expel_54 ?_
        first | refine g_aload0 dX3_expel_55 ?_ | refine g_aloadQ0 dX3_expel_55 ?_ | refine g_aloadN0 dX3_expel_55 ?_
        refine g_iload1 dX3_expel_56 ?_
        refine g_iload4 dX3_expel_57 ?_
        refine g_V2n0 (ctX3_hasShare hA _ _ _ hBx (by omega) (by omega)) kX3_hasShare q2212 tw_0 rfl rfl (by decide) ⟨rfl, rfl⟩ ⟨Nat.zero_le _, Nat.zero_le _⟩ (Nat.le_of_ble_eq_true rfl) dX3_expel_59 (fun r_59 h_59 p_59 => ?_)
        obtain ⟨hr_59, hi_59, rfl⟩ := p_59
        first | refine g_ifN_eq (tgt := 69) dX3_expel_62 (by decide) (by first | omega | exact hB _ _ | (split <;> omega)) (fun c_62 => ?_) (fun c_62 => ?_) | refine g_if_eq (tgt := 69) dX3_expel_62 (by decide) (fun c_62 => ?_) (fun c_62 => ?_)
        · refine g_iconst (nI 0) dX3_expel_69 (by decide) ?_
          first | refine g_iaddN dX3_expel_70 ?_ | refine g_iadd dX3_expel_70 ?_
          refine g_istore3 dX3_expel_71 (by decide) ?_
          first | refine g_aload0 dX3_expel_72 ?_ | refine g_aloadQ0 dX3_expel_72 ?_ | refine g_aloadN0 dX3_expel_72 ?_
          refine g_iload1 dX3_expel_73 ?_
          refine g_iload4 dX3_expel_74 ?_
          refine g_V2v0 (ctX3_removes hA _ _ _ (by omega) (by omega)) kX3_removes q2250 tw_0 rfl rfl (by decide) ⟨rfl, rfl⟩ ⟨Nat.zero_le _, Nat.zero_le _⟩ (Nat.le_of_ble_eq_true rfl) dX3_expel_76 (fun h_76 p_76 => ?_)
          subst p_76
          first | refine g_iincN4 1 dX3_expel_79 (by decide) (by decide) ?_ | refine g_iinc4 _ dX3_expel_79 rfl (by decide) ?_
          refine g_goto (tgt := 44) dX3_expel_82 (by decide) ?_
          first | rw [show exN M s m (i + 1) = exN M s m i + 1 from by rw [exN, if_pos (by omega)]] at ih | rw [show exN M s m (i + 1) = exN M s m i + 0 from by rw [exN, if_neg (by omega)]] at ih
          exact ih
        · refine g_iconst (nI 1) dX3_expel_65 (by decide) ?_
          refine g_goto (tgt := 70) dX3_expel_66 (by decide) ?_
          first | refine g_iaddN dX3_expel_70 ?_ | refine g_iadd dX3_expel_70 ?_
          refine g_istore3 dX3_expel_71 (by decide) ?_
          first | refine g_aload0 dX3_expel_72 ?_ | refine g_aloadQ0 dX3_expel_72 ?_ | refine g_aloadN0 dX3_expel_72 ?_
          refine g_iload1 dX3_expel_73 ?_
          refine g_iload4 dX3_expel_74 ?_
          refine g_V2v0 (ctX3_removes hA _ _ _ (by omega) (by omega)) kX3_removes q2250 tw_0 rfl rfl (by decide) ⟨rfl, rfl⟩ ⟨Nat.zero_le _, Nat.zero_le _⟩ (Nat.le_of_ble_eq_true rfl) dX3_expel_76 (fun h_76 p_76 => ?_)
          subst p_76
          first | refine g_iincN4 1 dX3_expel_79 (by decide) (by decide) ?_ | refine g_iinc4 _ dX3_expel_79 rfl (by decide) ?_
          refine g_goto (tgt := 44) dX3_expel_82 (by decide) ?_
          first | rw [show exN M s m (i + 1) = exN M s m i + 1 from by rw [exN, if_pos (by omega)]] at ih | rw [show exN M s m (i + 1) = exN M s m i + 0 from by rw [exN, if_neg (by omega)]] at ih
          exact ih
  refine g_iload1 dX3_expel_0 ?_
  refine g_S1n0 (ctX3_isSlot _ (by omega)) kX3_isSlot q2235 (by decide) ⟨rfl, rfl⟩ ⟨Nat.zero_le _, Nat.zero_le _⟩ (Nat.le_of_ble_eq_true rfl) dX3_expel_1 (fun r_1 h_1 p_1 => ?_)
  obtain ⟨hr_1, hi_1, rfl⟩ := p_1
  first | refine g_ifN_eq (tgt := 14) dX3_expel_4 (by decide) (by first | omega | exact hB _ _ | (split <;> omega)) (fun c_4 => ?_) (fun c_4 => ?_) | refine g_if_eq (tgt := 14) dX3_expel_4 (by decide) (fun c_4 => ?_) (fun c_4 => ?_)
  · first | refine g_aload0 dX3_expel_14 ?_ | refine g_aloadQ0 dX3_expel_14 ?_ | refine g_aloadN0 dX3_expel_14 ?_
    refine g_iconst (nI 1) dX3_expel_15 (by decide) ?_
    refine g_V1n0 (ctX3_fails hA _ _) kX3_fails q2196 tw_0 rfl rfl (by decide) ⟨rfl, rfl⟩ ⟨Nat.zero_le _, Nat.zero_le _⟩ (Nat.le_of_ble_eq_true rfl) dX3_expel_16 (fun r_16 h_16 p_16 => ?_)
    obtain ⟨rfl, rfl⟩ := p_16
    exact g_iret dX3_expel_19 rfl ⟨_, rfl, t_fails (by unfold xc_expel; (repeat' split) <;> omega) (by omega) (by unfold xm_expel; rw [if_neg (by omega)]; exact tSame.rf)⟩
  · refine g_iload2 dX3_expel_7 ?_
    refine g_S1n0 (ctX3_isMember _ (by omega)) kX3_isMember q2190 (by decide) ⟨rfl, rfl⟩ ⟨Nat.zero_le _, Nat.zero_le _⟩ (Nat.le_of_ble_eq_true rfl) dX3_expel_8 (fun r_8 h_8 p_8 => ?_)
    obtain ⟨hr_8, hi_8, rfl⟩ := p_8
    first | refine g_ifN_ne (tgt := 20) dX3_expel_11 (by decide) (by first | omega | exact hB _ _ | (split <;> omega)) (fun c_11 => ?_) (fun c_11 => ?_) | refine g_if_ne (tgt := 20) dX3_expel_11 (by decide) (fun c_11 => ?_) (fun c_11 => ?_)
    · first | refine g_aload0 dX3_expel_20 ?_ | refine g_aloadQ0 dX3_expel_20 ?_ | refine g_aloadN0 dX3_expel_20 ?_
      refine g_iload1 dX3_expel_21 ?_
      refine g_iconst (nI 0) dX3_expel_22 (by decide) ?_
      refine g_V2n0 (ctX3_of hA _ _ _ (by omega) (by omega)) kX3_of q2220 tw_0 rfl rfl (by decide) ⟨rfl, rfl⟩ ⟨Nat.zero_le _, Nat.zero_le _⟩ (Nat.le_of_ble_eq_true rfl) dX3_expel_23 (fun r_23 h_23 p_23 => ?_)
      obtain ⟨rfl, rfl⟩ := p_23
      first | refine g_ifN_ne (tgt := 35) dX3_expel_26 (by decide) (by first | omega | exact hB _ _ | (split <;> omega)) (fun c_26 => ?_) (fun c_26 => ?_) | refine g_if_ne (tgt := 35) dX3_expel_26 (by decide) (fun c_26 => ?_) (fun c_26 => ?_)
      · refine g_iconst (nI 0) dX3_expel_35 (by decide) ?_
        refine g_istore3 dX3_expel_36 (by decide) ?_
        refine g_iconst (nI 3) dX3_expel_37 (by decide) ?_
        refine g_iload2 dX3_expel_38 ?_
        first | refine g_imulN dX3_expel_39 ?_ | refine g_imul dX3_expel_39 ?_
        refine g_iconst (nI 1) dX3_expel_40 (by decide) ?_
        first | refine g_iaddN dX3_expel_41 ?_ | refine g_iadd dX3_expel_41 ?_
        refine g_istore4 dX3_expel_42 (by decide) ?_
        exact L 0 (by omega) (by omega) (by omega) (by omega) (by omega)
      · first | refine g_aload0 dX3_expel_29 ?_ | refine g_aloadQ0 dX3_expel_29 ?_ | refine g_aloadN0 dX3_expel_29 ?_
        refine g_iconst (nI 2) dX3_expel_30 (by decide) ?_
        refine g_V1n0 (ctX3_fails hA _ _) kX3_fails q2196 tw_0 rfl rfl (by decide) ⟨rfl, rfl⟩ ⟨Nat.zero_le _, Nat.zero_le _⟩ (Nat.le_of_ble_eq_true rfl) dX3_expel_31 (fun r_31 h_31 p_31 => ?_)
        obtain ⟨rfl, rfl⟩ := p_31
        exact g_iret dX3_expel_34 rfl ⟨_, rfl, t_fails (by unfold xc_expel; (repeat' split) <;> omega) (by omega) (by unfold xm_expel; rw [if_neg (by omega)]; exact tSame.rf)⟩
    · first | refine g_aload0 dX3_expel_14 ?_ | refine g_aloadQ0 dX3_expel_14 ?_ | refine g_aloadN0 dX3_expel_14 ?_
      refine g_iconst (nI 1) dX3_expel_15 (by decide) ?_
      refine g_V1n0 (ctX3_fails hA _ _) kX3_fails q2196 tw_0 rfl rfl (by decide) ⟨rfl, rfl⟩ ⟨Nat.zero_le _, Nat.zero_le _⟩ (Nat.le_of_ble_eq_true rfl) dX3_expel_16 (fun r_16 h_16 p_16 => ?_)
      obtain ⟨rfl, rfl⟩ := p_16
      exact g_iret dX3_expel_19 rfl ⟨_, rfl, t_fails (by unfold xc_expel; (repeat' split) <;> omega) (by omega) (by unfold xm_expel; rw [if_neg (by omega)]; exact tSame.rf)⟩
