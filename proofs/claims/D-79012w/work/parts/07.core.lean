/-! G LAYER: a ghost heap (tag and content by address), one predicate V of pure data over the kit's W, one form Ct of contract -/
set_option maxRecDepth 100000
abbrev AH : Type := Nat → Option (Nat × va_E)
/-- launch, class ids and slots, array classes, addresses of constants, the law's start, its argument -/
abbrev GE : Type := Launch × va_G × (Nat → ClassId) × (Nat → Nat) × State × Addr
abbrev GE.l (E : GE) : Launch := E.1
abbrev GE.D (E : GE) : va_G := E.2.1
abbrev GE.dA (E : GE) : Nat → ClassId := E.2.2.1
abbrev GE.ad (E : GE) : Nat → Nat := E.2.2.2.1
abbrev GE.S0 (E : GE) : State := E.2.2.2.2.1
abbrev GE.b (E : GE) : Addr := E.2.2.2.2.2
def gA (E : GE) : Nat → Prop := fun q => E.S0.heap.size ≤ q
def gTys (E : GE) : List (ClassId × FieldType) := [(E.dA 0, .int), (E.dA 1, .long), (E.dA 2, .boolean), (E.dA 3, .byte), (E.dA 4, .char), (E.dA 5, .object "java/lang/Object"), (E.dA 6, .object "SecretVault$Secret"), (E.dA 7, .object "SecretVault$Share"), (E.dA 8, .object "SecretVault$Usable"), (E.dA 9, .object "SecretVault$State")]
def gCl : List vw_C := [(RX1, TX1, 5), (RX2, TX2, 5), (RX3, TX3, 22), (RX5, TX5, 5), (RX6, TX6, 3), (RJ1, TJ1, 3), (RJ4, TJ4, 4), (RJ5, TJ5, 4), (RJ17, TJ17, 1), (RJ21, TJ21, 3), (RJ31, TJ31, 4), (RX11, TX11, 1), (RX13, TX13, 1), (RX14, TX14, 1), (RX16, TX16, 2), (RX17, TX17, 7), (RX18, TX18, 2), (RX19, TX19, 1), (RX20, TX20, 1), (RX21, TX21, 1), (RX22, TX22, 1), (RX8, TX8, 8), (RX9, TX9, 8), (RX15, TX15, 8), (RJ27, TJ27, 6)]
def gI (E : GE) (h : AH) (H : Heap) : Prop := va_S (gA E) E.S0.heap H [] ∧ ∃ ws : va_W, va_P E.D gCl ws H ∧ va_D (gA E) ws ∧ ∀ (a t : Nat) (e : va_E), h a = some (t, e) → (a, e) ∈ ws
def g_up (h : AH) (a : Nat) (x : Nat × va_E) : AH := fun b => if b = a then some x else h b
theorem g_up_self (h : AH) (a : Nat) (x : Nat × va_E) : g_up h a x a = some x := if_pos rfl
theorem g_up_ne {h : AH} {a b : Nat} (x : Nat × va_E) (hn : b ≠ a) : g_up h a x b = h b := if_neg hn
theorem g_up_of {h : AH} {a b : Nat} {x y : Nat × va_E} (hb : h b = some y) (hn : b ≠ a) : g_up h a x b = some y := (if_neg hn).trans hb
/-- other tags, other addresses -/
theorem g_tne {h : AH} {a b ta tb : Nat} {x y : va_E} (ha : h a = some (ta, x)) (hb : h b = some (tb, y)) (hn : tb ≠ ta) : b ≠ a := by
  intro e
  subst e
  rw [ha] at hb
  injection hb with h1
  injection h1 with h2 h3
  exact hn h2.symm
theorem g_fne {h : AH} {a b t : Nat} {x : va_E} (ha : h a = none) (hb : h b = some (t, x)) : b ≠ a := by
  intro e
  subst e
  rw [ha] at hb
  cases hb
theorem g_upt {h : AH} {a b ta tb : Nat} {x x' y : va_E} (hb : h b = some (tb, y)) (ha : h a = some (ta, x)) (hn : tb ≠ ta) : g_up h a (ta, x') b = some (tb, y) := g_up_of hb (g_tne ha hb hn)
theorem g_upf {h : AH} {a b tb : Nat} {z : Nat × va_E} {y : va_E} (hb : h b = some (tb, y)) (ha : h a = none) : g_up h a z b = some (tb, y) := g_up_of hb (g_fne ha hb)
theorem g_upup (h : AH) (a : Nat) (x y : Nat × va_E) : g_up (g_up h a x) a y = g_up h a y := by
  funext b
  unfold g_up
  split <;> rfl
/-- what the ghost heap keeps, off the tags P -/
def Fr (P : Nat → Prop) (h h' : AH) : Prop := ∀ (a t : Nat) (e : va_E), h a = some (t, e) → ¬ P t → h' a = some (t, e)
theorem Fr.rf {P : Nat → Prop} {h : AH} : Fr P h h := fun _ _ _ q _ => q
theorem Fr.tr {P : Nat → Prop} {h h1 h2 : AH} (a : Fr P h h1) (b : Fr P h1 h2) : Fr P h h2 := fun x t e q n => b x t e (a x t e q n) n
theorem Fr.mono {P P' : Nat → Prop} {h h1 : AH} (a : Fr P h h1) (i : ∀ t, P t → P' t) : Fr P' h h1 := fun x t e q n => a x t e q (fun z => n (i t z))
theorem Fr.put {P : Nat → Prop} {h : AH} {a t : Nat} {e e' : va_E} (ha : h a = some (t, e)) (hp : P t) : Fr P h (g_up h a (t, e')) := fun x t2 e2 q n => g_upt q ha (fun z => n (z ▸ hp))
theorem Fr.new {P : Nat → Prop} {h : AH} {a : Nat} {z : Nat × va_E} (ha : h a = none) : Fr P h (g_up h a z) := fun x t2 e2 q _ => g_upf q ha
/-- program, environment, entry state, method, arguments, frames below, method's and code's records -/
abbrev GX : Type := Program × Env × State × MethodId × Array Value × List Frame × Method × Code
abbrev GX.p (X : GX) : Program := X.1
abbrev GX.e (X : GX) : Env := X.2.1
abbrev GX.s (X : GX) : State := X.2.2.1
abbrev GX.m (X : GX) : MethodId := X.2.2.2.1
abbrev GX.args (X : GX) : Array Value := X.2.2.2.2.1
abbrev GX.below (X : GX) : List Frame := X.2.2.2.2.2.1
abbrev GX.meth (X : GX) : Method := X.2.2.2.2.2.2.1
abbrev GX.c (X : GX) : Code := X.2.2.2.2.2.2.2
/-- a method: name, locals, answer, handlers, room, the place of its one long local (or a number that is none) -/
abbrev GM : Type := MethodName × Nat × Option FieldType × List (Nat × Nat × Nat × Nat) × Room × Nat
abbrev GM.y (M : GM) : MethodName := M.1
abbrev GM.nL (M : GM) : Nat := M.2.1
abbrev GM.ret (M : GM) : Option FieldType := M.2.2.1
abbrev GM.hh (M : GM) : List (Nat × Nat × Nat × Nat) := M.2.2.2.1
abbrev GM.rm (M : GM) : Room := M.2.2.2.2.1
abbrev GM.c2 (M : GM) : Nat := M.2.2.2.2.2
def gWd (cc : ByteArray) (M : GM) : Cond := match M.hh with
  | [] => Cond.code M.y cc M.nL M.ret
  | _ :: _ => Cond.codeWith M.y cc M.nL M.ret M.hh
def gWs (cc : ByteArray) (M : GM) : List Cond := gWd cc M :: lw_all
/-- what holds of the environment: no stack traces; the classes and array classes; every word of the tables at the start -/
def gE (E : GE) : Prop := E.l.stackTraces = false ∧ va_K E.D gCl (gTys E) E.S0 ∧ (∀ w ∈ lw_tbl, w.before #[Value.ref E.b] E.S0 = true) ∧ (Jvm.Cond.and given_1 narrow_1).before #[Value.ref E.b] E.S0 = true
def gOk (E : GE) (cc : ByteArray) (own : String) (M : GM) (X : GX) : Prop :=
  X.p.tables.exec = Jvm.exec ∧ X.c.code = cc ∧ X.meth.sig.returnType = M.ret ∧ X.meth.locks = false ∧ X.c.maxLocals = M.nL ∧ X.s.vm.findClass own = some X.m.cls ∧ (∀ w ∈ lw_all, w.before X.args X.s = true) ∧ E.S0.WarmedH X.s.vm ∧ X.meth.name = M.y.name ∧ X.c.exceptionTable.toList = tableOf M.hh ∧ va_S (gA E) E.S0.heap X.s.heap [] ∧ gE E
section
variable {E : GE} {cc : ByteArray} {own : String} {M : GM} {X : GX}
theorem gOk.hx (O : gOk E cc own M X) : X.p.tables.exec = Jvm.exec := O.1
theorem gOk.hb (O : gOk E cc own M X) : X.c.code = cc := O.2.1
theorem gOk.hr (O : gOk E cc own M X) : X.meth.sig.returnType = M.ret := O.2.2.1
theorem gOk.hlocks (O : gOk E cc own M X) : X.meth.locks = false := O.2.2.2.1
theorem gOk.hml (O : gOk E cc own M X) : X.c.maxLocals = M.nL := O.2.2.2.2.1
theorem gOk.hown (O : gOk E cc own M X) : X.s.vm.findClass own = some X.m.cls := O.2.2.2.2.2.1
theorem gOk.hts (O : gOk E cc own M X) : ∀ w ∈ lw_all, w.before X.args X.s = true := O.2.2.2.2.2.2.1
theorem gOk.hW (O : gOk E cc own M X) : E.S0.WarmedH X.s.vm := O.2.2.2.2.2.2.2.1
theorem gOk.hnm (O : gOk E cc own M X) : X.meth.name = M.y.name := O.2.2.2.2.2.2.2.2.1
theorem gOk.htab (O : gOk E cc own M X) : X.c.exceptionTable.toList = tableOf M.hh := O.2.2.2.2.2.2.2.2.2.1
theorem gOk.hS0 (O : gOk E cc own M X) : va_S (gA E) E.S0.heap X.s.heap [] := O.2.2.2.2.2.2.2.2.2.2.1
theorem gOk.hE (O : gOk E cc own M X) : gE E := O.2.2.2.2.2.2.2.2.2.2.2
theorem gOk.hK (O : gOk E cc own M X) : va_K E.D gCl (gTys E) X.s := va_K.moved O.hW.alike O.hE.2.1
theorem gOk.hA (O : gOk E cc own M X) : ∀ q : Nat, X.s.heap.size ≤ q → gA E q := fun q h => Nat.le_trans O.hS0.1 h
end
/-- the locals by their places; a value of two slots is told at the place c2 alone -/
def gL (c2 : Nat) : Nat → List (Option Value) → List (Nat × Value)
  | _, [] => []
  | i, none :: r => gL c2 (i + 1) r
  | i, some v :: r => if v.category = 1 ∨ i = c2 then (i, v) :: gL c2 (i + 1) r else gL c2 (i + 1) r
theorem gL_mem {c2 : Nat} : ∀ {ls : List (Option Value)} {i j : Nat} {v : Value}, (j, v) ∈ gL c2 i ls ↔ i ≤ j ∧ ls[j - i]? = some (some v) ∧ (v.category = 1 ∨ j = c2)
  | [], i, j, v => by simp [gL]
  | none :: r, i, j, v => by
    rw [gL, gL_mem]
    constructor
    · rintro ⟨h1, h2, h3⟩
      refine ⟨by omega, ?_, h3⟩
      rw [show j - i = (j - (i + 1)) + 1 by omega, List.getElem?_cons_succ]
      exact h2
    · rintro ⟨h1, h2, h3⟩
      rcases Nat.eq_or_lt_of_le h1 with e | e
      · subst e
        simp at h2
      · refine ⟨e, ?_, h3⟩
        rw [show j - i = (j - (i + 1)) + 1 by omega, List.getElem?_cons_succ] at h2
        exact h2
  | some w :: r, i, j, v => by
    rw [gL]
    have key : (j, v) ∈ gL c2 (i + 1) r ↔ i < j ∧ (some w :: r)[j - i]? = some (some v) ∧ (v.category = 1 ∨ j = c2) := by
      rw [gL_mem]
      constructor
      · rintro ⟨h1, h2, h3⟩
        refine ⟨h1, ?_, h3⟩
        rw [show j - i = (j - (i + 1)) + 1 by omega, List.getElem?_cons_succ]
        exact h2
      · rintro ⟨h1, h2, h3⟩
        refine ⟨h1, ?_, h3⟩
        rw [show j - i = (j - (i + 1)) + 1 by omega, List.getElem?_cons_succ] at h2
        exact h2
    split
    · rename_i hw
      rw [List.mem_cons, key]
      constructor
      · rintro (h | ⟨h1, h2, h3⟩)
        · cases h
          exact ⟨Nat.le_refl _, by simp, hw⟩
        · exact ⟨Nat.le_of_lt h1, h2, h3⟩
      · rintro ⟨h1, h2, h3⟩
        rcases Nat.eq_or_lt_of_le h1 with e | e
        · subst e
          simp at h2
          subst h2
          exact Or.inl rfl
        · exact Or.inr ⟨e, h2, h3⟩
    · rename_i hw
      rw [key]
      constructor
      · rintro ⟨h1, h2, h3⟩
        exact ⟨Nat.le_of_lt h1, h2, h3⟩
      · rintro ⟨h1, h2, h3⟩
        rcases Nat.eq_or_lt_of_le h1 with e | e
        · subst e
          simp at h2
          subst h2
          exact absurd h3 hw
        · exact ⟨e, h2, h3⟩
def gQc (E : GE) (Po : Option Value → AH → Prop) : Array Value → State → Outcome → State → Prop := fun _ st oc t => (∃ (v : Option Value) (h' : AH), oc = .returned v ∧ Po v h' ∧ gI E h' t.heap) ∧ va_F (gA E) st t
def gXC (E : GE) (Px : String → Nat → AH → Prop) : String → Addr → State → State → Prop := fun C q st t => (∃ h' : AH, Px C q h' ∧ gI E h' t.heap) ∧ va_F (gA E) st t
def V (E : GE) (cc : ByteArray) (own : String) (M : GM) (Po : Option Value → AH → Prop) (Px : String → Nat → AH → Prop) (X : GX) (h : AH) (k n pc : Nat) (ls : List (Option Value)) (st : List Value) : Prop :=
  gOk E cc own M X → ∀ (H : Heap) (locs : List Loc) (la : Array Slot), gI E h H → va_S (gA E) X.s.heap H locs → lv_has la M.nL (gL M.c2 0 ls) → ls.length = M.nL →
    W X.p E.l X.e M.rm X.s X.m X.args X.below X.meth X.c H locs k n (vx_MQ X.below (gQc E Po) (gXC E Px) X.args X.s M.rm.cells M.rm.slots (gA E)) (F0 X.m pc la st)
/-- q, of class C, is thrown at pc -/
def VX (E : GE) (cc : ByteArray) (own : String) (M : GM) (Po : Option Value → AH → Prop) (Px : String → Nat → AH → Prop) (X : GX) (h : AH) (k n pc : Nat) (ls : List (Option Value)) (C : String) (q : Nat) : Prop :=
  gOk E cc own M X → ∀ (H : Heap) (locs : List Loc) (la : Array Slot) (rest : List Value) (ce : Cell), gI E h H → va_S (gA E) X.s.heap H locs → lv_has la M.nL (gL M.c2 0 ls) → ls.length = M.nL → H[q]? = some ce → ce.vm = .none → X.s.vm.findClass C = some ce.cls →
    vx_W X.p E.l X.e M.rm X.s X.m X.args X.below X.meth X.c H locs k n (vx_MQ X.below (gQc E Po) (gXC E Px) X.args X.s M.rm.cells M.rm.slots (gA E)) (F0 X.m pc la rest) q
/-- a contract: method M with code cc, called with av in the ghost heap h -/
def Ct (E : GE) (cc : ByteArray) (M : GM) (av : List Value) (h : AH) (Po : Option Value → AH → Prop) (Px : String → Nat → AH → Prop) : Prop :=
  gE E → vx_Met E.l M.y (gWs cc M) M.rm (va_Pc av (fun U => E.S0.WarmedH U.vm ∧ gI E h U.heap)) (gQc E Po) (gXC E Px) M.rm.cells M.rm.slots (gA E)
/-- all places -/
def gP : Nat → List (Option Value) → List (Nat × Value)
  | _, [] => []
  | i, none :: r => gP (i + 1) r
  | i, some v :: r => (i, v) :: gP (i + 1) r
theorem gP_mem : ∀ {ls : List (Option Value)} {i j : Nat} {v : Value}, i ≤ j → ls[j - i]? = some (some v) → (j, v) ∈ gP i ls
  | [], i, j, v, h1, h2 => by simp at h2
  | o :: r, i, j, v, h1, h2 => by
    rcases Nat.eq_or_lt_of_le h1 with e | e
    · subst e
      simp at h2
      subst h2
      exact List.mem_cons_self
    · rw [show j - i = (j - (i + 1)) + 1 by omega, List.getElem?_cons_succ] at h2
      have h3 := gP_mem e h2
      cases o with
      | none => exact h3
      | some w => exact List.mem_cons_of_mem _ h3
theorem gL_store {c2 i : Nat} {ls : List (Option Value)} {v : Value} (hi : i < ls.length) (hc : ¬ i = c2 + 1) : ∀ q ∈ gL c2 0 (ls.set i (some v)), q ∈ (i, v) :: (gL c2 0 ls).filter (fun q => !(q.1 == i) && !(q.1 + 1 == i && q.2.category == 2)) := by
  rintro ⟨j, w⟩ hq
  obtain ⟨h1, h2, h3⟩ := gL_mem.mp hq
  simp only [Nat.sub_zero] at h2
  by_cases e : j = i
  · subst e
    simp [hi] at h2
    subst h2
    exact List.mem_cons_self
  · rw [List.getElem?_set_ne (fun z => e z.symm)] at h2
    refine List.mem_cons_of_mem _ (List.mem_filter.mpr ⟨gL_mem.mpr ⟨h1, h2, h3⟩, ?_⟩)
    simp only [Bool.and_eq_true, Bool.not_eq_true', beq_eq_false_iff_ne, ne_eq, Bool.and_eq_false_iff]
    refine ⟨e, ?_⟩
    rcases h3 with h3 | h3
    · right
      omega
    · left
      omega
theorem gL_at {c2 nL i : Nat} {la : Array Slot} {ls : List (Option Value)} {v : Value} (h : lv_has la nL (gL c2 0 ls)) (hl : ls[i]? = some (some v)) (hv : v.category = 1 ∨ i = c2) : la[i]? = some (.val v) := h.2.2 (i, v) (gL_mem.mpr ⟨Nat.zero_le _, hl, hv⟩)
theorem gL_put {c2 nL i : Nat} {la : Array Slot} {ls : List (Option Value)} {v : Value} (hi : i < ls.length) (hc : ¬ i = c2 + 1) (h : lv_has la nL ((i, v) :: (gL c2 0 ls).filter (fun q => !(q.1 == i) && !(q.1 + 1 == i && q.2.category == 2)))) : lv_has la nL (gL c2 0 (ls.set i (some v))) := ⟨h.1, h.2.1, fun q hq => h.2.2 q (gL_store hi hc q hq)⟩
theorem g_enter {own : String} {E : GE} {cc : ByteArray} {M : GM} {av : List Value} {h : AH} {Po : Option Value → AH → Prop} {Px : String → Nat → AH → Prop} (ls : List (Option Value)) (hy : plainName M.y.cls = true) (how : M.y.cls = own) (hh : M.hh = []) (hlen : (lg_sl av).length ≤ M.nL) (hl : gP 0 ls = lv_args 0 av) (hlL : ls.length = M.nL)
    (body : ∀ X : GX, V E cc own M Po Px X h 0 0 0 ls []) : Ct E cc M av h Po Px := by
  intro hE
  subst how
  refine vx_ofW (cc := cc) (maxL := M.nL) (ret := M.ret) (ws' := lw_all) hy (by unfold gWs gWd; rw [hh]) ?_
  intro p e s m args below meth c s₁ B hml hnt hv
  obtain ⟨rfl, hW, hI⟩ := hv
  have hl0 := lv_entry av (n := M.nL) hlen
  rw [lg_entry_eq]
  generalize (lg_sl av ++ List.replicate (M.nL - (lg_sl av).length) Slot.unset).toArray = la at hl0 ⊢
  have hts := atoms_spec (ws := gWs cc M) B.pre
  refine body (p, e, s, m, av.toArray, below, meth, c) ⟨B.exec, B.bytes, B.returns, B.notSynchronized, hml, findClass_of_methodNamed B.named, fun w h => hts w (List.mem_cons_of_mem _ h), hW, (name_of_methodNamed B.named B.method).1, ?_, hI.1, hE⟩ s.heap [] la hI va_S.rf ⟨hl0.1, hl0.2.1, fun q hq => ?_⟩ hlL
  · rw [hh]
    cases hc : c.exceptionTable.toList with
    | nil => rfl
    | cons x r => exact absurd (hc ▸ List.mem_cons_self) (fun z => hnt x z)
  · obtain ⟨j, v⟩ := q
    obtain ⟨-, h2, -⟩ := gL_mem.mp hq
    exact hl0.2.2 _ (hl ▸ gP_mem (Nat.zero_le _) h2)
section GR
variable {E : GE} {cc : ByteArray} {own : String} {M : GM} {Po : Option Value → AH → Prop} {Px : String → Nat → AH → Prop} {X : GX} {h : AH} {k n pc : Nat} {ls : List (Option Value)} {st : List Value}

theorem g_iconst {z : Int} (v : Int32) (d : decode cc pc = .ok (.iconst z, 1)) (hv : Int32.ofInt z = v) (kk : V E cc own M Po Px X h k n (pc + 1) ls (.int v :: st)) : V E cc own M Po Px X h k n pc ls st := fun O H locs la hI hS hl hL => lv_iconst O.hx O.hb d hv (kk O H locs la hI hS hl hL)
theorem g_bipush {z : Int} (v : Int32) (d : decode cc pc = .ok (.bipush z, 2)) (hv : (Int8.ofInt z).toInt32 = v) (kk : V E cc own M Po Px X h k n (pc + 2) ls (.int v :: st)) : V E cc own M Po Px X h k n pc ls st := fun O H locs la hI hS hl hL => lv_bipush O.hx O.hb d hv (kk O H locs la hI hS hl hL)
theorem g_sipush {z : Int} (v : Int32) (d : decode cc pc = .ok (.sipush z, 3)) (hv : (Int16.ofInt z).toInt32 = v) (kk : V E cc own M Po Px X h k n (pc + 3) ls (.int v :: st)) : V E cc own M Po Px X h k n pc ls st := fun O H locs la hI hS hl hL => lv_sipush O.hx O.hb d hv (kk O H locs la hI hS hl hL)
theorem g_lconst {z : Fin 2} (v : Int64) (d : decode cc pc = .ok (.lconst z, 1)) (hv : Int64.ofNat (z : Nat) = v) (kk : V E cc own M Po Px X h k n (pc + 1) ls (.long v :: st)) : V E cc own M Po Px X h k n pc ls st := fun O H locs la hI hS hl hL => lv_lconst O.hx O.hb d hv (kk O H locs la hI hS hl hL)
theorem g_null  (d : decode cc pc = .ok (.aconst_null, 1)) (kk : V E cc own M Po Px X h k n (pc + 1) ls (.null :: st)) : V E cc own M Po Px X h k n pc ls st := fun O H locs la hI hS hl hL => lv_null O.hx O.hb d (kk O H locs la hI hS hl hL)
theorem g_ldc {i : Nat} (v : Int32) (d : decode cc pc = .ok (.ldc i, 2)) (hv : Cond.constant own i v ∈ lw_all) (kk : V E cc own M Po Px X h k n (pc + 2) ls (.int v :: st)) : V E cc own M Po Px X h k n pc ls st := fun O H locs la hI hS hl hL => lv_ldc O.hx O.hb O.hown (O.hts _ hv) d (kk O H locs la hI hS hl hL)
theorem g_ldc2d {i : Nat} (v : UInt64) (d : decode cc pc = .ok (.ldc2_w i, 3)) (hv : Cond.constantDouble own i v ∈ lw_all) (kk : V E cc own M Po Px X h k n (pc + 3) ls (.double v :: st)) : V E cc own M Po Px X h k n pc ls st := fun O H locs la hI hS hl hL => lv_ldc2d O.hx O.hb O.hown (O.hts _ hv) d (kk O H locs la hI hS hl hL)
theorem g_iadd {x y : Int32} (d : decode cc pc = .ok (.iadd, 1)) (kk : V E cc own M Po Px X h k n (pc + 1) ls (.int (x + y) :: st)) : V E cc own M Po Px X h k n pc ls (.int y :: .int x :: st) := fun O H locs la hI hS hl hL => lv_iadd O.hx O.hb d (kk O H locs la hI hS hl hL)
theorem g_isub {x y : Int32} (d : decode cc pc = .ok (.isub, 1)) (kk : V E cc own M Po Px X h k n (pc + 1) ls (.int (x - y) :: st)) : V E cc own M Po Px X h k n pc ls (.int y :: .int x :: st) := fun O H locs la hI hS hl hL => lv_isub O.hx O.hb d (kk O H locs la hI hS hl hL)
theorem g_imul {x y : Int32} (d : decode cc pc = .ok (.imul, 1)) (kk : V E cc own M Po Px X h k n (pc + 1) ls (.int (x * y) :: st)) : V E cc own M Po Px X h k n pc ls (.int y :: .int x :: st) := fun O H locs la hI hS hl hL => lv_imul O.hx O.hb d (kk O H locs la hI hS hl hL)
theorem g_iand {x y : Int32} (d : decode cc pc = .ok (.iand, 1)) (kk : V E cc own M Po Px X h k n (pc + 1) ls (.int (x &&& y) :: st)) : V E cc own M Po Px X h k n pc ls (.int y :: .int x :: st) := fun O H locs la hI hS hl hL => lv_iand O.hx O.hb d (kk O H locs la hI hS hl hL)
theorem g_ior {x y : Int32} (d : decode cc pc = .ok (.ior, 1)) (kk : V E cc own M Po Px X h k n (pc + 1) ls (.int (x ||| y) :: st)) : V E cc own M Po Px X h k n pc ls (.int y :: .int x :: st) := fun O H locs la hI hS hl hL => lv_ior O.hx O.hb d (kk O H locs la hI hS hl hL)
theorem g_ixor {x y : Int32} (d : decode cc pc = .ok (.ixor, 1)) (kk : V E cc own M Po Px X h k n (pc + 1) ls (.int (x ^^^ y) :: st)) : V E cc own M Po Px X h k n pc ls (.int y :: .int x :: st) := fun O H locs la hI hS hl hL => lv_ixor O.hx O.hb d (kk O H locs la hI hS hl hL)
def jrem (x y : Int32) : Int32 := x - x / y * y
def jremL (x y : Int64) : Int64 := x - x / y * y
theorem g_idiv {x y : Int32} (d : decode cc pc = .ok (.idiv, 1)) (hne : ¬ y = 0) (kk : V E cc own M Po Px X h k n (pc + 1) ls (.int (x / y) :: st)) : V E cc own M Po Px X h k n pc ls (.int y :: .int x :: st) := fun O H locs la hI hS hl hL => lv_idiv O.hx O.hb d hne (kk O H locs la hI hS hl hL)
theorem g_irem {x y : Int32} (d : decode cc pc = .ok (.irem, 1)) (hne : ¬ y = 0) (kk : V E cc own M Po Px X h k n (pc + 1) ls (.int (jrem x y) :: st)) : V E cc own M Po Px X h k n pc ls (.int y :: .int x :: st) := fun O H locs la hI hS hl hL => lv_irem O.hx O.hb d hne (kk O H locs la hI hS hl hL)
theorem g_ineg {x : Int32} (d : decode cc pc = .ok (.ineg, 1)) (kk : V E cc own M Po Px X h k n (pc + 1) ls (.int (-x) :: st)) : V E cc own M Po Px X h k n pc ls (.int x :: st) := fun O H locs la hI hS hl hL => lv_ineg O.hx O.hb d (kk O H locs la hI hS hl hL)
theorem g_ishl {x y : Int32} (d : decode cc pc = .ok (.ishl, 1)) (kk : V E cc own M Po Px X h k n (pc + 1) ls (.int (x <<< (y &&& 31)) :: st)) : V E cc own M Po Px X h k n pc ls (.int y :: .int x :: st) := fun O H locs la hI hS hl hL => lv_ishl O.hx O.hb d (kk O H locs la hI hS hl hL)
theorem g_ishr {x y : Int32} (d : decode cc pc = .ok (.ishr, 1)) (kk : V E cc own M Po Px X h k n (pc + 1) ls (.int (x >>> (y &&& 31)) :: st)) : V E cc own M Po Px X h k n pc ls (.int y :: .int x :: st) := fun O H locs la hI hS hl hL => lv_ishr O.hx O.hb d (kk O H locs la hI hS hl hL)
theorem g_iushr {x y : Int32} (d : decode cc pc = .ok (.iushr, 1)) (kk : V E cc own M Po Px X h k n (pc + 1) ls (.int (x.toUInt32 >>> (y.toUInt32 &&& Int32.toUInt32 31)).toInt32 :: st)) : V E cc own M Po Px X h k n pc ls (.int y :: .int x :: st) := fun O H locs la hI hS hl hL => lv_iushr O.hx O.hb d rfl (kk O H locs la hI hS hl hL)
theorem g_i2l {x : Int32} (d : decode cc pc = .ok (.i2l, 1)) (kk : V E cc own M Po Px X h k n (pc + 1) ls (.long x.toInt64 :: st)) : V E cc own M Po Px X h k n pc ls (.int x :: st) := fun O H locs la hI hS hl hL => lv_i2l O.hx O.hb d rfl (kk O H locs la hI hS hl hL)
theorem g_l2i {x : Int64} (d : decode cc pc = .ok (.l2i, 1)) (kk : V E cc own M Po Px X h k n (pc + 1) ls (.int x.toInt32 :: st)) : V E cc own M Po Px X h k n pc ls (.long x :: st) := fun O H locs la hI hS hl hL => lv_l2i O.hx O.hb d rfl (kk O H locs la hI hS hl hL)
theorem g_i2c {x : Int32} (d : decode cc pc = .ok (.i2c, 1)) (kk : V E cc own M Po Px X h k n (pc + 1) ls (.int (x.toUInt32 % 65536).toInt32 :: st)) : V E cc own M Po Px X h k n pc ls (.int x :: st) := fun O H locs la hI hS hl hL => lv_i2c O.hx O.hb d rfl (kk O H locs la hI hS hl hL)
theorem g_i2b {x : Int32} (d : decode cc pc = .ok (.i2b, 1)) (kk : V E cc own M Po Px X h k n (pc + 1) ls (.int x.toInt8.toInt32 :: st)) : V E cc own M Po Px X h k n pc ls (.int x :: st) := fun O H locs la hI hS hl hL => lv_i2b O.hx O.hb d rfl (kk O H locs la hI hS hl hL)
theorem g_i2f {x : Int32} (d : decode cc pc = .ok (.i2f, 1)) (kk : V E cc own M Po Px X h k n (pc + 1) ls (.float (FP.i2f x) :: st)) : V E cc own M Po Px X h k n pc ls (.int x :: st) := fun O H locs la hI hS hl hL => lv_i2f O.hx O.hb d (kk O H locs la hI hS hl hL)
theorem g_i2d {x : Int32} (d : decode cc pc = .ok (.i2d, 1)) (kk : V E cc own M Po Px X h k n (pc + 1) ls (.double (FP.i2d x) :: st)) : V E cc own M Po Px X h k n pc ls (.int x :: st) := fun O H locs la hI hS hl hL => lv_i2d O.hx O.hb d (kk O H locs la hI hS hl hL)
theorem g_fdiv {x y : UInt32} (d : decode cc pc = .ok (.fdiv, 1)) (hne : vf_n32 (FP.fdiv x y)) (kk : V E cc own M Po Px X h k n (pc + 1) ls (.float (FP.fdiv x y) :: st)) : V E cc own M Po Px X h k n pc ls (.float y :: .float x :: st) := fun O H locs la hI hS hl hL => lv_fdiv O.hx O.hb d hne (kk O H locs la hI hS hl hL)
theorem g_ddiv {x y : UInt64} (d : decode cc pc = .ok (.ddiv, 1)) (hne : vf_n64 (FP.ddiv x y)) (kk : V E cc own M Po Px X h k n (pc + 1) ls (.double (FP.ddiv x y) :: st)) : V E cc own M Po Px X h k n pc ls (.double y :: .double x :: st) := fun O H locs la hI hS hl hL => lv_ddiv O.hx O.hb d hne (kk O H locs la hI hS hl hL)
theorem g_fcmp {x y : UInt32} {op : CmpOp} (d : decode cc pc = .ok (.fcmp op, 1)) (kk : V E cc own M Po Px X h k n (pc + 1) ls (.int (Op.cmpValue (FP.fcmp x y) op) :: st)) : V E cc own M Po Px X h k n pc ls (.float y :: .float x :: st) := fun O H locs la hI hS hl hL => lv_fcmp O.hx O.hb d (kk O H locs la hI hS hl hL)
theorem g_dcmp {x y : UInt64} {op : CmpOp} (d : decode cc pc = .ok (.dcmp op, 1)) (kk : V E cc own M Po Px X h k n (pc + 1) ls (.int (Op.cmpValue (FP.dcmp x y) op) :: st)) : V E cc own M Po Px X h k n pc ls (.double y :: .double x :: st) := fun O H locs la hI hS hl hL => lv_dcmp O.hx O.hb d (kk O H locs la hI hS hl hL)
theorem g_lmul {x y : Int64} (d : decode cc pc = .ok (.lmul, 1)) (kk : V E cc own M Po Px X h k n (pc + 1) ls (.long (x * y) :: st)) : V E cc own M Po Px X h k n pc ls (.long y :: .long x :: st) := fun O H locs la hI hS hl hL => lv_lmul O.hx O.hb d (kk O H locs la hI hS hl hL)
theorem g_lrem {x y : Int64} (d : decode cc pc = .ok (.lrem, 1)) (hne : ¬ y = 0) (kk : V E cc own M Po Px X h k n (pc + 1) ls (.long (jremL x y) :: st)) : V E cc own M Po Px X h k n pc ls (.long y :: .long x :: st) := fun O H locs la hI hS hl hL => lv_lrem O.hx O.hb d hne (kk O H locs la hI hS hl hL)
theorem g_lcmp {x y : Int64} (d : decode cc pc = .ok (.lcmp, 1)) (kk : V E cc own M Po Px X h k n (pc + 1) ls (.int (lg_cmp x y) :: st)) : V E cc own M Po Px X h k n pc ls (.long y :: .long x :: st) := fun O H locs la hI hS hl hL => W.lcmp O.hx O.hb d (kk O H locs la hI hS hl hL)
theorem g_dup {v : Value} (d : decode cc pc = .ok (.dup, 1)) (hv : v.category = 1) (kk : V E cc own M Po Px X h k n (pc + 1) ls (v :: v :: st)) : V E cc own M Po Px X h k n pc ls (v :: st) := fun O H locs la hI hS hl hL => lv_dup O.hx O.hb d hv (kk O H locs la hI hS hl hL)
theorem g_pop {v : Value} (d : decode cc pc = .ok (.pop, 1)) (hv : v.category = 1) (kk : V E cc own M Po Px X h k n (pc + 1) ls st) : V E cc own M Po Px X h k n pc ls (v :: st) := fun O H locs la hI hS hl hL => lv_pop O.hx O.hb d hv (kk O H locs la hI hS hl hL)
theorem g_dup_x1 {v w : Value} (d : decode cc pc = .ok (.dup_x1, 1)) (hv : v.category = 1) (hw : w.category = 1) (kk : V E cc own M Po Px X h k n (pc + 1) ls (v :: w :: v :: st)) : V E cc own M Po Px X h k n pc ls (v :: w :: st) := fun O H locs la hI hS hl hL => lv_dup_x1 O.hx O.hb d hv hw (kk O H locs la hI hS hl hL)
theorem g_dup2 {v w : Value} (d : decode cc pc = .ok (.dup2, 1)) (hv : v.category = 1) (hw : w.category = 1) (kk : V E cc own M Po Px X h k n (pc + 1) ls (v :: w :: v :: w :: st)) : V E cc own M Po Px X h k n pc ls (v :: w :: st) := fun O H locs la hI hS hl hL => lv_dup2_11 O.hx O.hb d hv hw (kk O H locs la hI hS hl hL)
theorem g_if_eq {x : Int32} {off : Int} {tgt : Nat} (d : decode cc pc = .ok (.ifCond .eq off, 3)) (ht : (pc : Int) + off = (tgt : Int)) (kt : x = 0 → V E cc own M Po Px X h k n tgt ls st) (kf : ¬ x = 0 → V E cc own M Po Px X h k n (pc + 3) ls st) : V E cc own M Po Px X h k n pc ls (.int x :: st) := fun O H locs la hI hS hl hL => lv_if_eq O.hx O.hb d ht (fun z => kt z O H locs la hI hS hl hL) (fun z => kf z O H locs la hI hS hl hL)
theorem g_icmp_eq {x y : Int32} {off : Int} {tgt : Nat} (d : decode cc pc = .ok (.if_icmp .eq off, 3)) (ht : (pc : Int) + off = (tgt : Int)) (kt : x = y → V E cc own M Po Px X h k n tgt ls st) (kf : ¬ x = y → V E cc own M Po Px X h k n (pc + 3) ls st) : V E cc own M Po Px X h k n pc ls (.int y :: .int x :: st) := fun O H locs la hI hS hl hL => lv_icmp_eq O.hx O.hb d ht (fun z => kt z O H locs la hI hS hl hL) (fun z => kf z O H locs la hI hS hl hL)
theorem g_if_ne {x : Int32} {off : Int} {tgt : Nat} (d : decode cc pc = .ok (.ifCond .ne off, 3)) (ht : (pc : Int) + off = (tgt : Int)) (kt : ¬ x = 0 → V E cc own M Po Px X h k n tgt ls st) (kf : x = 0 → V E cc own M Po Px X h k n (pc + 3) ls st) : V E cc own M Po Px X h k n pc ls (.int x :: st) := fun O H locs la hI hS hl hL => lv_if_ne O.hx O.hb d ht (fun z => kt z O H locs la hI hS hl hL) (fun z => kf z O H locs la hI hS hl hL)
theorem g_icmp_ne {x y : Int32} {off : Int} {tgt : Nat} (d : decode cc pc = .ok (.if_icmp .ne off, 3)) (ht : (pc : Int) + off = (tgt : Int)) (kt : ¬ x = y → V E cc own M Po Px X h k n tgt ls st) (kf : x = y → V E cc own M Po Px X h k n (pc + 3) ls st) : V E cc own M Po Px X h k n pc ls (.int y :: .int x :: st) := fun O H locs la hI hS hl hL => lv_icmp_ne O.hx O.hb d ht (fun z => kt z O H locs la hI hS hl hL) (fun z => kf z O H locs la hI hS hl hL)
theorem g_if_lt {x : Int32} {off : Int} {tgt : Nat} (d : decode cc pc = .ok (.ifCond .lt off, 3)) (ht : (pc : Int) + off = (tgt : Int)) (kt : x < 0 → V E cc own M Po Px X h k n tgt ls st) (kf : ¬ x < 0 → V E cc own M Po Px X h k n (pc + 3) ls st) : V E cc own M Po Px X h k n pc ls (.int x :: st) := fun O H locs la hI hS hl hL => lv_if_lt O.hx O.hb d ht (fun z => kt z O H locs la hI hS hl hL) (fun z => kf z O H locs la hI hS hl hL)
theorem g_icmp_lt {x y : Int32} {off : Int} {tgt : Nat} (d : decode cc pc = .ok (.if_icmp .lt off, 3)) (ht : (pc : Int) + off = (tgt : Int)) (kt : x < y → V E cc own M Po Px X h k n tgt ls st) (kf : ¬ x < y → V E cc own M Po Px X h k n (pc + 3) ls st) : V E cc own M Po Px X h k n pc ls (.int y :: .int x :: st) := fun O H locs la hI hS hl hL => lv_icmp_lt O.hx O.hb d ht (fun z => kt z O H locs la hI hS hl hL) (fun z => kf z O H locs la hI hS hl hL)
theorem g_if_ge {x : Int32} {off : Int} {tgt : Nat} (d : decode cc pc = .ok (.ifCond .ge off, 3)) (ht : (pc : Int) + off = (tgt : Int)) (kt : 0 ≤ x → V E cc own M Po Px X h k n tgt ls st) (kf : ¬ 0 ≤ x → V E cc own M Po Px X h k n (pc + 3) ls st) : V E cc own M Po Px X h k n pc ls (.int x :: st) := fun O H locs la hI hS hl hL => lv_if_ge O.hx O.hb d ht (fun z => kt z O H locs la hI hS hl hL) (fun z => kf z O H locs la hI hS hl hL)
theorem g_icmp_ge {x y : Int32} {off : Int} {tgt : Nat} (d : decode cc pc = .ok (.if_icmp .ge off, 3)) (ht : (pc : Int) + off = (tgt : Int)) (kt : y ≤ x → V E cc own M Po Px X h k n tgt ls st) (kf : ¬ y ≤ x → V E cc own M Po Px X h k n (pc + 3) ls st) : V E cc own M Po Px X h k n pc ls (.int y :: .int x :: st) := fun O H locs la hI hS hl hL => lv_icmp_ge O.hx O.hb d ht (fun z => kt z O H locs la hI hS hl hL) (fun z => kf z O H locs la hI hS hl hL)
theorem g_if_gt {x : Int32} {off : Int} {tgt : Nat} (d : decode cc pc = .ok (.ifCond .gt off, 3)) (ht : (pc : Int) + off = (tgt : Int)) (kt : 0 < x → V E cc own M Po Px X h k n tgt ls st) (kf : ¬ 0 < x → V E cc own M Po Px X h k n (pc + 3) ls st) : V E cc own M Po Px X h k n pc ls (.int x :: st) := fun O H locs la hI hS hl hL => lv_if_gt O.hx O.hb d ht (fun z => kt z O H locs la hI hS hl hL) (fun z => kf z O H locs la hI hS hl hL)
theorem g_icmp_gt {x y : Int32} {off : Int} {tgt : Nat} (d : decode cc pc = .ok (.if_icmp .gt off, 3)) (ht : (pc : Int) + off = (tgt : Int)) (kt : y < x → V E cc own M Po Px X h k n tgt ls st) (kf : ¬ y < x → V E cc own M Po Px X h k n (pc + 3) ls st) : V E cc own M Po Px X h k n pc ls (.int y :: .int x :: st) := fun O H locs la hI hS hl hL => lv_icmp_gt O.hx O.hb d ht (fun z => kt z O H locs la hI hS hl hL) (fun z => kf z O H locs la hI hS hl hL)
theorem g_if_le {x : Int32} {off : Int} {tgt : Nat} (d : decode cc pc = .ok (.ifCond .le off, 3)) (ht : (pc : Int) + off = (tgt : Int)) (kt : x ≤ 0 → V E cc own M Po Px X h k n tgt ls st) (kf : ¬ x ≤ 0 → V E cc own M Po Px X h k n (pc + 3) ls st) : V E cc own M Po Px X h k n pc ls (.int x :: st) := fun O H locs la hI hS hl hL => lv_if_le O.hx O.hb d ht (fun z => kt z O H locs la hI hS hl hL) (fun z => kf z O H locs la hI hS hl hL)
theorem g_icmp_le {x y : Int32} {off : Int} {tgt : Nat} (d : decode cc pc = .ok (.if_icmp .le off, 3)) (ht : (pc : Int) + off = (tgt : Int)) (kt : x ≤ y → V E cc own M Po Px X h k n tgt ls st) (kf : ¬ x ≤ y → V E cc own M Po Px X h k n (pc + 3) ls st) : V E cc own M Po Px X h k n pc ls (.int y :: .int x :: st) := fun O H locs la hI hS hl hL => lv_icmp_le O.hx O.hb d ht (fun z => kt z O H locs la hI hS hl hL) (fun z => kf z O H locs la hI hS hl hL)
theorem g_goto {off : Int} {tgt : Nat} (d : decode cc pc = .ok (.goto off, 3)) (ht : (pc : Int) + off = (tgt : Int)) (kk : V E cc own M Po Px X h k n tgt ls st) : V E cc own M Po Px X h k n pc ls st := fun O H locs la hI hS hl hL => lv_goto O.hx O.hb d ht (kk O H locs la hI hS hl hL)
theorem g_acmp_ne {rx ry : Option Nat} {off : Int} {tgt : Nat} (d : decode cc pc = .ok (.if_acmp .ne off, 3)) (ht : (pc : Int) + off = (tgt : Int)) (kt : ¬ rx = ry → V E cc own M Po Px X h k n tgt ls st) (kf : rx = ry → V E cc own M Po Px X h k n (pc + 3) ls st) : V E cc own M Po Px X h k n pc ls (va_rf ry :: va_rf rx :: st) := fun O H locs la hI hS hl hL => lv_acmp_ne O.hx O.hb d ht (fun z => kt z O H locs la hI hS hl hL) (fun z => kf z O H locs la hI hS hl hL)
theorem g_ifnullR {x : Nat} {off : Int} (d : decode cc pc = .ok (.ifnull off, 3)) (kk : V E cc own M Po Px X h k n (pc + 3) ls st) : V E cc own M Po Px X h k n pc ls (.ref x :: st) := fun O H locs la hI hS hl hL => lv_ifnull O.hx O.hb d (kk O H locs la hI hS hl hL)
theorem g_ifnullN {off : Int} {tgt : Nat} (d : decode cc pc = .ok (.ifnull off, 3)) (ht : (pc : Int) + off = (tgt : Int)) (kk : V E cc own M Po Px X h k n tgt ls st) : V E cc own M Po Px X h k n pc ls (.null :: st) := fun O H locs la hI hS hl hL => lv_ifnullN O.hx O.hb d ht (kk O H locs la hI hS hl hL)
theorem g_ifnonnullR {x : Nat} {off : Int} {tgt : Nat} (d : decode cc pc = .ok (.ifnonnull off, 3)) (ht : (pc : Int) + off = (tgt : Int)) (kk : V E cc own M Po Px X h k n tgt ls st) : V E cc own M Po Px X h k n pc ls (.ref x :: st) := fun O H locs la hI hS hl hL => lv_ifnonnull O.hx O.hb d ht (kk O H locs la hI hS hl hL)
theorem g_ifnonnullN {off : Int} (d : decode cc pc = .ok (.ifnonnull off, 3)) (kk : V E cc own M Po Px X h k n (pc + 3) ls st) : V E cc own M Po Px X h k n pc ls (.null :: st) := fun O H locs la hI hS hl hL => lv_ifnonnullN O.hx O.hb d (kk O H locs la hI hS hl hL)
theorem g_ifnull {r : Option Nat} {off : Int} {tgt : Nat} (d : decode cc pc = .ok (.ifnull off, 3)) (ht : (pc : Int) + off = (tgt : Int)) (kt : r = none → V E cc own M Po Px X h k n tgt ls st) (kf : ∀ a, r = some a → V E cc own M Po Px X h k n (pc + 3) ls st) : V E cc own M Po Px X h k n pc ls (va_rf r :: st) := by
  cases r with
  | none => exact g_ifnullN d ht (kt rfl)
  | some a => exact g_ifnullR d (kf a rfl)
theorem g_ifnonnull {r : Option Nat} {off : Int} {tgt : Nat} (d : decode cc pc = .ok (.ifnonnull off, 3)) (ht : (pc : Int) + off = (tgt : Int)) (kt : ∀ a, r = some a → V E cc own M Po Px X h k n tgt ls st) (kf : r = none → V E cc own M Po Px X h k n (pc + 3) ls st) : V E cc own M Po Px X h k n pc ls (va_rf r :: st) := by
  cases r with
  | none => exact g_ifnonnullN d (kf rfl)
  | some a => exact g_ifnonnullR d ht (kt a rfl)
theorem g_lookup {dflt : Int} {ps : Array (Int × Int)} {len : Nat} {x : Int32} {off : Int} {tgt : Nat} (d : decode cc pc = .ok (.lookupswitch dflt ps, len)) (hp : (ps.toList.zip (ps.toList.drop 1)).all (fun (a, next) => a.1 < next.1) = true) (ho : Op.lookupswitch.offset ps.toList dflt x.toInt = off) (ht : (pc : Int) + off = (tgt : Int)) (kk : V E cc own M Po Px X h k n tgt ls st) : V E cc own M Po Px X h k n pc ls (.int x :: st) := fun O H locs la hI hS hl hL => lv_lookup O.hx O.hb d hp ho ht (kk O H locs la hI hS hl hL)
theorem g_tableOut {dflt lo hi : Int} {offs : Array Int} {len : Nat} {x : Int32} {tgt : Nat} (d : decode cc pc = .ok (.tableswitch dflt lo hi offs, len)) (hz : x.toInt < lo ∨ hi < x.toInt) (ht : (pc : Int) + dflt = (tgt : Int)) (kk : V E cc own M Po Px X h k n tgt ls st) : V E cc own M Po Px X h k n pc ls (.int x :: st) := fun O H locs la hI hS hl hL => lv_tableOut O.hx O.hb d hz ht (kk O H locs la hI hS hl hL)
theorem g_tableIn {dflt lo hi : Int} {offs : Array Int} {len : Nat} {x : Int32} {off : Int} {tgt : Nat} (d : decode cc pc = .ok (.tableswitch dflt lo hi offs, len)) (h1 : ¬ x.toInt < lo) (h2 : ¬ hi < x.toInt) (ho : offs[(x.toInt - lo).toNat]? = some off) (ht : (pc : Int) + off = (tgt : Int)) (kk : V E cc own M Po Px X h k n tgt ls st) : V E cc own M Po Px X h k n pc ls (.int x :: st) := fun O H locs la hI hS hl hL => lv_tableIn O.hx O.hb d h1 h2 ho ht (kk O H locs la hI hS hl hL)
theorem g_topi {x : Int32} (kk : ∀ y : Int32, y = x → V E cc own M Po Px X h k n pc ls (.int y :: st)) : V E cc own M Po Px X h k n pc ls (.int x :: st) := kk x rfl
theorem g_topl {x : Int64} (kk : ∀ y : Int64, y = x → V E cc own M Po Px X h k n pc ls (.long y :: st)) : V E cc own M Po Px X h k n pc ls (.long x :: st) := kk x rfl
theorem g_top {v w : Value} (e : v = w) (kk : V E cc own M Po Px X h k n pc ls (w :: st)) : V E cc own M Po Px X h k n pc ls (v :: st) := e ▸ kk
theorem g_iloadw0 {r : List (Option Value)} {x : Int32} (d : decode cc pc = .ok (.iload 0, 2)) (kk : V E cc own M Po Px X h k n (pc + 2) (some (.int x) :: r) (.int x :: st)) : V E cc own M Po Px X h k n pc (some (.int x) :: r) st := fun O H locs la hI hS hl hL => lv_iload O.hx O.hb d (gL_at hl (i := 0) rfl (Or.inl rfl)) (kk O H locs la hI hS hl hL)
theorem g_iload0 {r : List (Option Value)} {x : Int32} (d : decode cc pc = .ok (.iload_n 0, 1)) (kk : V E cc own M Po Px X h k n (pc + 1) (some (.int x) :: r) (.int x :: st)) : V E cc own M Po Px X h k n pc (some (.int x) :: r) st := fun O H locs la hI hS hl hL => lv_iload_n O.hx O.hb d rfl (gL_at hl (i := 0) rfl (Or.inl rfl)) (kk O H locs la hI hS hl hL)
theorem g_aloadw0 {r : List (Option Value)} {x : Nat} (d : decode cc pc = .ok (.aload 0, 2)) (kk : V E cc own M Po Px X h k n (pc + 2) (some (.ref x) :: r) (.ref x :: st)) : V E cc own M Po Px X h k n pc (some (.ref x) :: r) st := fun O H locs la hI hS hl hL => lv_aload O.hx O.hb d (gL_at hl (i := 0) rfl (Or.inl rfl)) (kk O H locs la hI hS hl hL)
theorem g_aload0 {r : List (Option Value)} {x : Nat} (d : decode cc pc = .ok (.aload_n 0, 1)) (kk : V E cc own M Po Px X h k n (pc + 1) (some (.ref x) :: r) (.ref x :: st)) : V E cc own M Po Px X h k n pc (some (.ref x) :: r) st := fun O H locs la hI hS hl hL => lv_aload_n O.hx O.hb d rfl (gL_at hl (i := 0) rfl (Or.inl rfl)) (kk O H locs la hI hS hl hL)
theorem g_aloadNw0 {r : List (Option Value)} (d : decode cc pc = .ok (.aload 0, 2)) (kk : V E cc own M Po Px X h k n (pc + 2) (some (.null) :: r) (.null :: st)) : V E cc own M Po Px X h k n pc (some (.null) :: r) st := fun O H locs la hI hS hl hL => lv_aloadN O.hx O.hb d (gL_at hl (i := 0) rfl (Or.inl rfl)) (kk O H locs la hI hS hl hL)
theorem g_aloadN0 {r : List (Option Value)} (d : decode cc pc = .ok (.aload_n 0, 1)) (kk : V E cc own M Po Px X h k n (pc + 1) (some (.null) :: r) (.null :: st)) : V E cc own M Po Px X h k n pc (some (.null) :: r) st := fun O H locs la hI hS hl hL => lv_aload_nN O.hx O.hb d rfl (gL_at hl (i := 0) rfl (Or.inl rfl)) (kk O H locs la hI hS hl hL)
theorem g_floadw0 {r : List (Option Value)} {x : UInt32} (d : decode cc pc = .ok (.fload 0, 2)) (kk : V E cc own M Po Px X h k n (pc + 2) (some (.float x) :: r) (.float x :: st)) : V E cc own M Po Px X h k n pc (some (.float x) :: r) st := fun O H locs la hI hS hl hL => lv_fload O.hx O.hb d (gL_at hl (i := 0) rfl (Or.inl rfl)) (kk O H locs la hI hS hl hL)
theorem g_fload0 {r : List (Option Value)} {x : UInt32} (d : decode cc pc = .ok (.fload_n 0, 1)) (kk : V E cc own M Po Px X h k n (pc + 1) (some (.float x) :: r) (.float x :: st)) : V E cc own M Po Px X h k n pc (some (.float x) :: r) st := fun O H locs la hI hS hl hL => lv_fload_n O.hx O.hb d rfl (gL_at hl (i := 0) rfl (Or.inl rfl)) (kk O H locs la hI hS hl hL)
theorem g_aloadQw0 {r : List (Option Value)} {y : Option Nat} (d : decode cc pc = .ok (.aload 0, 2)) (kk : V E cc own M Po Px X h k n (pc + 2) (some (va_rf y) :: r) (va_rf y :: st)) : V E cc own M Po Px X h k n pc (some (va_rf y) :: r) st := by
  cases y with
  | none => exact g_aloadNw0 d kk
  | some a => exact g_aloadw0 d kk
theorem g_aloadQ0 {r : List (Option Value)} {y : Option Nat} (d : decode cc pc = .ok (.aload_n 0, 1)) (kk : V E cc own M Po Px X h k n (pc + 1) (some (va_rf y) :: r) (va_rf y :: st)) : V E cc own M Po Px X h k n pc (some (va_rf y) :: r) st := by
  cases y with
  | none => exact g_aloadN0 d kk
  | some a => exact g_aload0 d kk
theorem g_istorew0 {o0 : Option Value} {r : List (Option Value)} {x : Int32} (d : decode cc pc = .ok (.istore 0, 2)) (hc : ¬ 0 = M.c2 + 1) (kk : V E cc own M Po Px X h k n (pc + 2) (some (.int x) :: r) st) : V E cc own M Po Px X h k n pc (o0 :: r) (.int x :: st) := fun O H locs la hI hS hl hL => lv_istore O.hx O.hb d hl (by have h9 := hL; simp only [List.length_cons] at h9; omega) rfl (fun la' hl' => kk O H locs la' hI hS (gL_put (i := 0) (by simp only [List.length_cons]; omega) hc hl') (by have h9 := hL; simp only [List.length_cons] at h9 ⊢; exact h9))
theorem g_istore0 {o0 : Option Value} {r : List (Option Value)} {x : Int32} (d : decode cc pc = .ok (.istore_n 0, 1)) (hc : ¬ 0 = M.c2 + 1) (kk : V E cc own M Po Px X h k n (pc + 1) (some (.int x) :: r) st) : V E cc own M Po Px X h k n pc (o0 :: r) (.int x :: st) := fun O H locs la hI hS hl hL => lv_istore_n O.hx O.hb d rfl hl (by have h9 := hL; simp only [List.length_cons] at h9; omega) rfl (fun la' hl' => kk O H locs la' hI hS (gL_put (i := 0) (by simp only [List.length_cons]; omega) hc hl') (by have h9 := hL; simp only [List.length_cons] at h9 ⊢; exact h9))
theorem g_astorew0 {o0 : Option Value} {r : List (Option Value)} {x : Nat} (d : decode cc pc = .ok (.astore 0, 2)) (hc : ¬ 0 = M.c2 + 1) (kk : V E cc own M Po Px X h k n (pc + 2) (some (.ref x) :: r) st) : V E cc own M Po Px X h k n pc (o0 :: r) (.ref x :: st) := fun O H locs la hI hS hl hL => lv_astore O.hx O.hb d hl (by have h9 := hL; simp only [List.length_cons] at h9; omega) rfl (fun la' hl' => kk O H locs la' hI hS (gL_put (i := 0) (by simp only [List.length_cons]; omega) hc hl') (by have h9 := hL; simp only [List.length_cons] at h9 ⊢; exact h9))
theorem g_astore0 {o0 : Option Value} {r : List (Option Value)} {x : Nat} (d : decode cc pc = .ok (.astore_n 0, 1)) (hc : ¬ 0 = M.c2 + 1) (kk : V E cc own M Po Px X h k n (pc + 1) (some (.ref x) :: r) st) : V E cc own M Po Px X h k n pc (o0 :: r) (.ref x :: st) := fun O H locs la hI hS hl hL => lv_astore_n O.hx O.hb d rfl hl (by have h9 := hL; simp only [List.length_cons] at h9; omega) rfl (fun la' hl' => kk O H locs la' hI hS (gL_put (i := 0) (by simp only [List.length_cons]; omega) hc hl') (by have h9 := hL; simp only [List.length_cons] at h9 ⊢; exact h9))
theorem g_astoreNw0 {o0 : Option Value} {r : List (Option Value)} (d : decode cc pc = .ok (.astore 0, 2)) (hc : ¬ 0 = M.c2 + 1) (kk : V E cc own M Po Px X h k n (pc + 2) (some (.null) :: r) st) : V E cc own M Po Px X h k n pc (o0 :: r) (.null :: st) := fun O H locs la hI hS hl hL => lv_astoreN O.hx O.hb d hl (by have h9 := hL; simp only [List.length_cons] at h9; omega) rfl (fun la' hl' => kk O H locs la' hI hS (gL_put (i := 0) (by simp only [List.length_cons]; omega) hc hl') (by have h9 := hL; simp only [List.length_cons] at h9 ⊢; exact h9))
theorem g_astoreN0 {o0 : Option Value} {r : List (Option Value)} (d : decode cc pc = .ok (.astore_n 0, 1)) (hc : ¬ 0 = M.c2 + 1) (kk : V E cc own M Po Px X h k n (pc + 1) (some (.null) :: r) st) : V E cc own M Po Px X h k n pc (o0 :: r) (.null :: st) := fun O H locs la hI hS hl hL => lv_astore_nN O.hx O.hb d rfl hl (by have h9 := hL; simp only [List.length_cons] at h9; omega) rfl (fun la' hl' => kk O H locs la' hI hS (gL_put (i := 0) (by simp only [List.length_cons]; omega) hc hl') (by have h9 := hL; simp only [List.length_cons] at h9 ⊢; exact h9))
theorem g_astoreQw0 {o0 : Option Value} {r : List (Option Value)} {y : Option Nat} (d : decode cc pc = .ok (.astore 0, 2)) (hc : ¬ 0 = M.c2 + 1) (kk : V E cc own M Po Px X h k n (pc + 2) (some (va_rf y) :: r) st) : V E cc own M Po Px X h k n pc (o0 :: r) (va_rf y :: st) := by
  cases y with
  | none => exact g_astoreNw0 d hc kk
  | some a => exact g_astorew0 d hc kk
theorem g_astoreQ0 {o0 : Option Value} {r : List (Option Value)} {y : Option Nat} (d : decode cc pc = .ok (.astore_n 0, 1)) (hc : ¬ 0 = M.c2 + 1) (kk : V E cc own M Po Px X h k n (pc + 1) (some (va_rf y) :: r) st) : V E cc own M Po Px X h k n pc (o0 :: r) (va_rf y :: st) := by
  cases y with
  | none => exact g_astoreN0 d hc kk
  | some a => exact g_astore0 d hc kk
theorem g_iinc0 {r : List (Option Value)} {x : Int32} {z : Int} (v : Int32) (d : decode cc pc = .ok (.iinc 0 z, 3)) (hv : x + Int32.ofInt z = v) (hc : ¬ 0 = M.c2 + 1) (kk : V E cc own M Po Px X h k n (pc + 3) (some (.int v) :: r) st) : V E cc own M Po Px X h k n pc (some (.int x) :: r) st := by
  intro O H locs la hI hS hl hL
  obtain ⟨q, hq⟩ := List.getElem?_of_mem (gL_mem.mpr (⟨Nat.zero_le _, rfl, Or.inl rfl⟩ : 0 ≤ 0 ∧ (some (.int x) :: r)[0 - 0]? = some (some (.int x)) ∧ ((Value.int x).category = 1 ∨ 0 = M.c2)))
  exact lv_iinc O.hx O.hb d hl (k := q) hq hv (by have h9 := hL; simp only [List.length_cons] at h9; omega) rfl (fun la' hl' => kk O H locs la' hI hS (gL_put (i := 0) (by simp only [List.length_cons]; omega) hc hl') (by have h9 := hL; simp only [List.length_cons] at h9 ⊢; exact h9))
theorem g_iloadw1 {o0 : Option Value} {r : List (Option Value)} {x : Int32} (d : decode cc pc = .ok (.iload 1, 2)) (kk : V E cc own M Po Px X h k n (pc + 2) (o0 :: some (.int x) :: r) (.int x :: st)) : V E cc own M Po Px X h k n pc (o0 :: some (.int x) :: r) st := fun O H locs la hI hS hl hL => lv_iload O.hx O.hb d (gL_at hl (i := 1) rfl (Or.inl rfl)) (kk O H locs la hI hS hl hL)
theorem g_iload1 {o0 : Option Value} {r : List (Option Value)} {x : Int32} (d : decode cc pc = .ok (.iload_n 1, 1)) (kk : V E cc own M Po Px X h k n (pc + 1) (o0 :: some (.int x) :: r) (.int x :: st)) : V E cc own M Po Px X h k n pc (o0 :: some (.int x) :: r) st := fun O H locs la hI hS hl hL => lv_iload_n O.hx O.hb d rfl (gL_at hl (i := 1) rfl (Or.inl rfl)) (kk O H locs la hI hS hl hL)
theorem g_aloadw1 {o0 : Option Value} {r : List (Option Value)} {x : Nat} (d : decode cc pc = .ok (.aload 1, 2)) (kk : V E cc own M Po Px X h k n (pc + 2) (o0 :: some (.ref x) :: r) (.ref x :: st)) : V E cc own M Po Px X h k n pc (o0 :: some (.ref x) :: r) st := fun O H locs la hI hS hl hL => lv_aload O.hx O.hb d (gL_at hl (i := 1) rfl (Or.inl rfl)) (kk O H locs la hI hS hl hL)
theorem g_aload1 {o0 : Option Value} {r : List (Option Value)} {x : Nat} (d : decode cc pc = .ok (.aload_n 1, 1)) (kk : V E cc own M Po Px X h k n (pc + 1) (o0 :: some (.ref x) :: r) (.ref x :: st)) : V E cc own M Po Px X h k n pc (o0 :: some (.ref x) :: r) st := fun O H locs la hI hS hl hL => lv_aload_n O.hx O.hb d rfl (gL_at hl (i := 1) rfl (Or.inl rfl)) (kk O H locs la hI hS hl hL)
theorem g_aloadNw1 {o0 : Option Value} {r : List (Option Value)} (d : decode cc pc = .ok (.aload 1, 2)) (kk : V E cc own M Po Px X h k n (pc + 2) (o0 :: some (.null) :: r) (.null :: st)) : V E cc own M Po Px X h k n pc (o0 :: some (.null) :: r) st := fun O H locs la hI hS hl hL => lv_aloadN O.hx O.hb d (gL_at hl (i := 1) rfl (Or.inl rfl)) (kk O H locs la hI hS hl hL)
theorem g_aloadN1 {o0 : Option Value} {r : List (Option Value)} (d : decode cc pc = .ok (.aload_n 1, 1)) (kk : V E cc own M Po Px X h k n (pc + 1) (o0 :: some (.null) :: r) (.null :: st)) : V E cc own M Po Px X h k n pc (o0 :: some (.null) :: r) st := fun O H locs la hI hS hl hL => lv_aload_nN O.hx O.hb d rfl (gL_at hl (i := 1) rfl (Or.inl rfl)) (kk O H locs la hI hS hl hL)
theorem g_floadw1 {o0 : Option Value} {r : List (Option Value)} {x : UInt32} (d : decode cc pc = .ok (.fload 1, 2)) (kk : V E cc own M Po Px X h k n (pc + 2) (o0 :: some (.float x) :: r) (.float x :: st)) : V E cc own M Po Px X h k n pc (o0 :: some (.float x) :: r) st := fun O H locs la hI hS hl hL => lv_fload O.hx O.hb d (gL_at hl (i := 1) rfl (Or.inl rfl)) (kk O H locs la hI hS hl hL)
theorem g_fload1 {o0 : Option Value} {r : List (Option Value)} {x : UInt32} (d : decode cc pc = .ok (.fload_n 1, 1)) (kk : V E cc own M Po Px X h k n (pc + 1) (o0 :: some (.float x) :: r) (.float x :: st)) : V E cc own M Po Px X h k n pc (o0 :: some (.float x) :: r) st := fun O H locs la hI hS hl hL => lv_fload_n O.hx O.hb d rfl (gL_at hl (i := 1) rfl (Or.inl rfl)) (kk O H locs la hI hS hl hL)
theorem g_aloadQw1 {o0 : Option Value} {r : List (Option Value)} {y : Option Nat} (d : decode cc pc = .ok (.aload 1, 2)) (kk : V E cc own M Po Px X h k n (pc + 2) (o0 :: some (va_rf y) :: r) (va_rf y :: st)) : V E cc own M Po Px X h k n pc (o0 :: some (va_rf y) :: r) st := by
  cases y with
  | none => exact g_aloadNw1 d kk
  | some a => exact g_aloadw1 d kk
theorem g_aloadQ1 {o0 : Option Value} {r : List (Option Value)} {y : Option Nat} (d : decode cc pc = .ok (.aload_n 1, 1)) (kk : V E cc own M Po Px X h k n (pc + 1) (o0 :: some (va_rf y) :: r) (va_rf y :: st)) : V E cc own M Po Px X h k n pc (o0 :: some (va_rf y) :: r) st := by
  cases y with
  | none => exact g_aloadN1 d kk
  | some a => exact g_aload1 d kk
theorem g_istorew1 {o0 o1 : Option Value} {r : List (Option Value)} {x : Int32} (d : decode cc pc = .ok (.istore 1, 2)) (hc : ¬ 1 = M.c2 + 1) (kk : V E cc own M Po Px X h k n (pc + 2) (o0 :: some (.int x) :: r) st) : V E cc own M Po Px X h k n pc (o0 :: o1 :: r) (.int x :: st) := fun O H locs la hI hS hl hL => lv_istore O.hx O.hb d hl (by have h9 := hL; simp only [List.length_cons] at h9; omega) rfl (fun la' hl' => kk O H locs la' hI hS (gL_put (i := 1) (by simp only [List.length_cons]; omega) hc hl') (by have h9 := hL; simp only [List.length_cons] at h9 ⊢; exact h9))
theorem g_istore1 {o0 o1 : Option Value} {r : List (Option Value)} {x : Int32} (d : decode cc pc = .ok (.istore_n 1, 1)) (hc : ¬ 1 = M.c2 + 1) (kk : V E cc own M Po Px X h k n (pc + 1) (o0 :: some (.int x) :: r) st) : V E cc own M Po Px X h k n pc (o0 :: o1 :: r) (.int x :: st) := fun O H locs la hI hS hl hL => lv_istore_n O.hx O.hb d rfl hl (by have h9 := hL; simp only [List.length_cons] at h9; omega) rfl (fun la' hl' => kk O H locs la' hI hS (gL_put (i := 1) (by simp only [List.length_cons]; omega) hc hl') (by have h9 := hL; simp only [List.length_cons] at h9 ⊢; exact h9))
theorem g_astorew1 {o0 o1 : Option Value} {r : List (Option Value)} {x : Nat} (d : decode cc pc = .ok (.astore 1, 2)) (hc : ¬ 1 = M.c2 + 1) (kk : V E cc own M Po Px X h k n (pc + 2) (o0 :: some (.ref x) :: r) st) : V E cc own M Po Px X h k n pc (o0 :: o1 :: r) (.ref x :: st) := fun O H locs la hI hS hl hL => lv_astore O.hx O.hb d hl (by have h9 := hL; simp only [List.length_cons] at h9; omega) rfl (fun la' hl' => kk O H locs la' hI hS (gL_put (i := 1) (by simp only [List.length_cons]; omega) hc hl') (by have h9 := hL; simp only [List.length_cons] at h9 ⊢; exact h9))
theorem g_astore1 {o0 o1 : Option Value} {r : List (Option Value)} {x : Nat} (d : decode cc pc = .ok (.astore_n 1, 1)) (hc : ¬ 1 = M.c2 + 1) (kk : V E cc own M Po Px X h k n (pc + 1) (o0 :: some (.ref x) :: r) st) : V E cc own M Po Px X h k n pc (o0 :: o1 :: r) (.ref x :: st) := fun O H locs la hI hS hl hL => lv_astore_n O.hx O.hb d rfl hl (by have h9 := hL; simp only [List.length_cons] at h9; omega) rfl (fun la' hl' => kk O H locs la' hI hS (gL_put (i := 1) (by simp only [List.length_cons]; omega) hc hl') (by have h9 := hL; simp only [List.length_cons] at h9 ⊢; exact h9))
theorem g_astoreNw1 {o0 o1 : Option Value} {r : List (Option Value)} (d : decode cc pc = .ok (.astore 1, 2)) (hc : ¬ 1 = M.c2 + 1) (kk : V E cc own M Po Px X h k n (pc + 2) (o0 :: some (.null) :: r) st) : V E cc own M Po Px X h k n pc (o0 :: o1 :: r) (.null :: st) := fun O H locs la hI hS hl hL => lv_astoreN O.hx O.hb d hl (by have h9 := hL; simp only [List.length_cons] at h9; omega) rfl (fun la' hl' => kk O H locs la' hI hS (gL_put (i := 1) (by simp only [List.length_cons]; omega) hc hl') (by have h9 := hL; simp only [List.length_cons] at h9 ⊢; exact h9))
theorem g_astoreN1 {o0 o1 : Option Value} {r : List (Option Value)} (d : decode cc pc = .ok (.astore_n 1, 1)) (hc : ¬ 1 = M.c2 + 1) (kk : V E cc own M Po Px X h k n (pc + 1) (o0 :: some (.null) :: r) st) : V E cc own M Po Px X h k n pc (o0 :: o1 :: r) (.null :: st) := fun O H locs la hI hS hl hL => lv_astore_nN O.hx O.hb d rfl hl (by have h9 := hL; simp only [List.length_cons] at h9; omega) rfl (fun la' hl' => kk O H locs la' hI hS (gL_put (i := 1) (by simp only [List.length_cons]; omega) hc hl') (by have h9 := hL; simp only [List.length_cons] at h9 ⊢; exact h9))
theorem g_astoreQw1 {o0 o1 : Option Value} {r : List (Option Value)} {y : Option Nat} (d : decode cc pc = .ok (.astore 1, 2)) (hc : ¬ 1 = M.c2 + 1) (kk : V E cc own M Po Px X h k n (pc + 2) (o0 :: some (va_rf y) :: r) st) : V E cc own M Po Px X h k n pc (o0 :: o1 :: r) (va_rf y :: st) := by
  cases y with
  | none => exact g_astoreNw1 d hc kk
  | some a => exact g_astorew1 d hc kk
theorem g_astoreQ1 {o0 o1 : Option Value} {r : List (Option Value)} {y : Option Nat} (d : decode cc pc = .ok (.astore_n 1, 1)) (hc : ¬ 1 = M.c2 + 1) (kk : V E cc own M Po Px X h k n (pc + 1) (o0 :: some (va_rf y) :: r) st) : V E cc own M Po Px X h k n pc (o0 :: o1 :: r) (va_rf y :: st) := by
  cases y with
  | none => exact g_astoreN1 d hc kk
  | some a => exact g_astore1 d hc kk
theorem g_iinc1 {o0 : Option Value} {r : List (Option Value)} {x : Int32} {z : Int} (v : Int32) (d : decode cc pc = .ok (.iinc 1 z, 3)) (hv : x + Int32.ofInt z = v) (hc : ¬ 1 = M.c2 + 1) (kk : V E cc own M Po Px X h k n (pc + 3) (o0 :: some (.int v) :: r) st) : V E cc own M Po Px X h k n pc (o0 :: some (.int x) :: r) st := by
  intro O H locs la hI hS hl hL
  obtain ⟨q, hq⟩ := List.getElem?_of_mem (gL_mem.mpr (⟨Nat.zero_le _, rfl, Or.inl rfl⟩ : 0 ≤ 1 ∧ (o0 :: some (.int x) :: r)[1 - 0]? = some (some (.int x)) ∧ ((Value.int x).category = 1 ∨ 1 = M.c2)))
  exact lv_iinc O.hx O.hb d hl (k := q) hq hv (by have h9 := hL; simp only [List.length_cons] at h9; omega) rfl (fun la' hl' => kk O H locs la' hI hS (gL_put (i := 1) (by simp only [List.length_cons]; omega) hc hl') (by have h9 := hL; simp only [List.length_cons] at h9 ⊢; exact h9))
theorem g_iloadw2 {o0 o1 : Option Value} {r : List (Option Value)} {x : Int32} (d : decode cc pc = .ok (.iload 2, 2)) (kk : V E cc own M Po Px X h k n (pc + 2) (o0 :: o1 :: some (.int x) :: r) (.int x :: st)) : V E cc own M Po Px X h k n pc (o0 :: o1 :: some (.int x) :: r) st := fun O H locs la hI hS hl hL => lv_iload O.hx O.hb d (gL_at hl (i := 2) rfl (Or.inl rfl)) (kk O H locs la hI hS hl hL)
theorem g_iload2 {o0 o1 : Option Value} {r : List (Option Value)} {x : Int32} (d : decode cc pc = .ok (.iload_n 2, 1)) (kk : V E cc own M Po Px X h k n (pc + 1) (o0 :: o1 :: some (.int x) :: r) (.int x :: st)) : V E cc own M Po Px X h k n pc (o0 :: o1 :: some (.int x) :: r) st := fun O H locs la hI hS hl hL => lv_iload_n O.hx O.hb d rfl (gL_at hl (i := 2) rfl (Or.inl rfl)) (kk O H locs la hI hS hl hL)
theorem g_aloadw2 {o0 o1 : Option Value} {r : List (Option Value)} {x : Nat} (d : decode cc pc = .ok (.aload 2, 2)) (kk : V E cc own M Po Px X h k n (pc + 2) (o0 :: o1 :: some (.ref x) :: r) (.ref x :: st)) : V E cc own M Po Px X h k n pc (o0 :: o1 :: some (.ref x) :: r) st := fun O H locs la hI hS hl hL => lv_aload O.hx O.hb d (gL_at hl (i := 2) rfl (Or.inl rfl)) (kk O H locs la hI hS hl hL)
theorem g_aload2 {o0 o1 : Option Value} {r : List (Option Value)} {x : Nat} (d : decode cc pc = .ok (.aload_n 2, 1)) (kk : V E cc own M Po Px X h k n (pc + 1) (o0 :: o1 :: some (.ref x) :: r) (.ref x :: st)) : V E cc own M Po Px X h k n pc (o0 :: o1 :: some (.ref x) :: r) st := fun O H locs la hI hS hl hL => lv_aload_n O.hx O.hb d rfl (gL_at hl (i := 2) rfl (Or.inl rfl)) (kk O H locs la hI hS hl hL)
theorem g_aloadNw2 {o0 o1 : Option Value} {r : List (Option Value)} (d : decode cc pc = .ok (.aload 2, 2)) (kk : V E cc own M Po Px X h k n (pc + 2) (o0 :: o1 :: some (.null) :: r) (.null :: st)) : V E cc own M Po Px X h k n pc (o0 :: o1 :: some (.null) :: r) st := fun O H locs la hI hS hl hL => lv_aloadN O.hx O.hb d (gL_at hl (i := 2) rfl (Or.inl rfl)) (kk O H locs la hI hS hl hL)
theorem g_aloadN2 {o0 o1 : Option Value} {r : List (Option Value)} (d : decode cc pc = .ok (.aload_n 2, 1)) (kk : V E cc own M Po Px X h k n (pc + 1) (o0 :: o1 :: some (.null) :: r) (.null :: st)) : V E cc own M Po Px X h k n pc (o0 :: o1 :: some (.null) :: r) st := fun O H locs la hI hS hl hL => lv_aload_nN O.hx O.hb d rfl (gL_at hl (i := 2) rfl (Or.inl rfl)) (kk O H locs la hI hS hl hL)
theorem g_floadw2 {o0 o1 : Option Value} {r : List (Option Value)} {x : UInt32} (d : decode cc pc = .ok (.fload 2, 2)) (kk : V E cc own M Po Px X h k n (pc + 2) (o0 :: o1 :: some (.float x) :: r) (.float x :: st)) : V E cc own M Po Px X h k n pc (o0 :: o1 :: some (.float x) :: r) st := fun O H locs la hI hS hl hL => lv_fload O.hx O.hb d (gL_at hl (i := 2) rfl (Or.inl rfl)) (kk O H locs la hI hS hl hL)
theorem g_fload2 {o0 o1 : Option Value} {r : List (Option Value)} {x : UInt32} (d : decode cc pc = .ok (.fload_n 2, 1)) (kk : V E cc own M Po Px X h k n (pc + 1) (o0 :: o1 :: some (.float x) :: r) (.float x :: st)) : V E cc own M Po Px X h k n pc (o0 :: o1 :: some (.float x) :: r) st := fun O H locs la hI hS hl hL => lv_fload_n O.hx O.hb d rfl (gL_at hl (i := 2) rfl (Or.inl rfl)) (kk O H locs la hI hS hl hL)
theorem g_aloadQw2 {o0 o1 : Option Value} {r : List (Option Value)} {y : Option Nat} (d : decode cc pc = .ok (.aload 2, 2)) (kk : V E cc own M Po Px X h k n (pc + 2) (o0 :: o1 :: some (va_rf y) :: r) (va_rf y :: st)) : V E cc own M Po Px X h k n pc (o0 :: o1 :: some (va_rf y) :: r) st := by
  cases y with
  | none => exact g_aloadNw2 d kk
  | some a => exact g_aloadw2 d kk
theorem g_aloadQ2 {o0 o1 : Option Value} {r : List (Option Value)} {y : Option Nat} (d : decode cc pc = .ok (.aload_n 2, 1)) (kk : V E cc own M Po Px X h k n (pc + 1) (o0 :: o1 :: some (va_rf y) :: r) (va_rf y :: st)) : V E cc own M Po Px X h k n pc (o0 :: o1 :: some (va_rf y) :: r) st := by
  cases y with
  | none => exact g_aloadN2 d kk
  | some a => exact g_aload2 d kk
theorem g_istorew2 {o0 o1 o2 : Option Value} {r : List (Option Value)} {x : Int32} (d : decode cc pc = .ok (.istore 2, 2)) (hc : ¬ 2 = M.c2 + 1) (kk : V E cc own M Po Px X h k n (pc + 2) (o0 :: o1 :: some (.int x) :: r) st) : V E cc own M Po Px X h k n pc (o0 :: o1 :: o2 :: r) (.int x :: st) := fun O H locs la hI hS hl hL => lv_istore O.hx O.hb d hl (by have h9 := hL; simp only [List.length_cons] at h9; omega) rfl (fun la' hl' => kk O H locs la' hI hS (gL_put (i := 2) (by simp only [List.length_cons]; omega) hc hl') (by have h9 := hL; simp only [List.length_cons] at h9 ⊢; exact h9))
theorem g_istore2 {o0 o1 o2 : Option Value} {r : List (Option Value)} {x : Int32} (d : decode cc pc = .ok (.istore_n 2, 1)) (hc : ¬ 2 = M.c2 + 1) (kk : V E cc own M Po Px X h k n (pc + 1) (o0 :: o1 :: some (.int x) :: r) st) : V E cc own M Po Px X h k n pc (o0 :: o1 :: o2 :: r) (.int x :: st) := fun O H locs la hI hS hl hL => lv_istore_n O.hx O.hb d rfl hl (by have h9 := hL; simp only [List.length_cons] at h9; omega) rfl (fun la' hl' => kk O H locs la' hI hS (gL_put (i := 2) (by simp only [List.length_cons]; omega) hc hl') (by have h9 := hL; simp only [List.length_cons] at h9 ⊢; exact h9))
theorem g_astorew2 {o0 o1 o2 : Option Value} {r : List (Option Value)} {x : Nat} (d : decode cc pc = .ok (.astore 2, 2)) (hc : ¬ 2 = M.c2 + 1) (kk : V E cc own M Po Px X h k n (pc + 2) (o0 :: o1 :: some (.ref x) :: r) st) : V E cc own M Po Px X h k n pc (o0 :: o1 :: o2 :: r) (.ref x :: st) := fun O H locs la hI hS hl hL => lv_astore O.hx O.hb d hl (by have h9 := hL; simp only [List.length_cons] at h9; omega) rfl (fun la' hl' => kk O H locs la' hI hS (gL_put (i := 2) (by simp only [List.length_cons]; omega) hc hl') (by have h9 := hL; simp only [List.length_cons] at h9 ⊢; exact h9))
theorem g_astore2 {o0 o1 o2 : Option Value} {r : List (Option Value)} {x : Nat} (d : decode cc pc = .ok (.astore_n 2, 1)) (hc : ¬ 2 = M.c2 + 1) (kk : V E cc own M Po Px X h k n (pc + 1) (o0 :: o1 :: some (.ref x) :: r) st) : V E cc own M Po Px X h k n pc (o0 :: o1 :: o2 :: r) (.ref x :: st) := fun O H locs la hI hS hl hL => lv_astore_n O.hx O.hb d rfl hl (by have h9 := hL; simp only [List.length_cons] at h9; omega) rfl (fun la' hl' => kk O H locs la' hI hS (gL_put (i := 2) (by simp only [List.length_cons]; omega) hc hl') (by have h9 := hL; simp only [List.length_cons] at h9 ⊢; exact h9))
theorem g_astoreNw2 {o0 o1 o2 : Option Value} {r : List (Option Value)} (d : decode cc pc = .ok (.astore 2, 2)) (hc : ¬ 2 = M.c2 + 1) (kk : V E cc own M Po Px X h k n (pc + 2) (o0 :: o1 :: some (.null) :: r) st) : V E cc own M Po Px X h k n pc (o0 :: o1 :: o2 :: r) (.null :: st) := fun O H locs la hI hS hl hL => lv_astoreN O.hx O.hb d hl (by have h9 := hL; simp only [List.length_cons] at h9; omega) rfl (fun la' hl' => kk O H locs la' hI hS (gL_put (i := 2) (by simp only [List.length_cons]; omega) hc hl') (by have h9 := hL; simp only [List.length_cons] at h9 ⊢; exact h9))
theorem g_astoreN2 {o0 o1 o2 : Option Value} {r : List (Option Value)} (d : decode cc pc = .ok (.astore_n 2, 1)) (hc : ¬ 2 = M.c2 + 1) (kk : V E cc own M Po Px X h k n (pc + 1) (o0 :: o1 :: some (.null) :: r) st) : V E cc own M Po Px X h k n pc (o0 :: o1 :: o2 :: r) (.null :: st) := fun O H locs la hI hS hl hL => lv_astore_nN O.hx O.hb d rfl hl (by have h9 := hL; simp only [List.length_cons] at h9; omega) rfl (fun la' hl' => kk O H locs la' hI hS (gL_put (i := 2) (by simp only [List.length_cons]; omega) hc hl') (by have h9 := hL; simp only [List.length_cons] at h9 ⊢; exact h9))
theorem g_astoreQw2 {o0 o1 o2 : Option Value} {r : List (Option Value)} {y : Option Nat} (d : decode cc pc = .ok (.astore 2, 2)) (hc : ¬ 2 = M.c2 + 1) (kk : V E cc own M Po Px X h k n (pc + 2) (o0 :: o1 :: some (va_rf y) :: r) st) : V E cc own M Po Px X h k n pc (o0 :: o1 :: o2 :: r) (va_rf y :: st) := by
  cases y with
  | none => exact g_astoreNw2 d hc kk
  | some a => exact g_astorew2 d hc kk
theorem g_astoreQ2 {o0 o1 o2 : Option Value} {r : List (Option Value)} {y : Option Nat} (d : decode cc pc = .ok (.astore_n 2, 1)) (hc : ¬ 2 = M.c2 + 1) (kk : V E cc own M Po Px X h k n (pc + 1) (o0 :: o1 :: some (va_rf y) :: r) st) : V E cc own M Po Px X h k n pc (o0 :: o1 :: o2 :: r) (va_rf y :: st) := by
  cases y with
  | none => exact g_astoreN2 d hc kk
  | some a => exact g_astore2 d hc kk
theorem g_iinc2 {o0 o1 : Option Value} {r : List (Option Value)} {x : Int32} {z : Int} (v : Int32) (d : decode cc pc = .ok (.iinc 2 z, 3)) (hv : x + Int32.ofInt z = v) (hc : ¬ 2 = M.c2 + 1) (kk : V E cc own M Po Px X h k n (pc + 3) (o0 :: o1 :: some (.int v) :: r) st) : V E cc own M Po Px X h k n pc (o0 :: o1 :: some (.int x) :: r) st := by
  intro O H locs la hI hS hl hL
  obtain ⟨q, hq⟩ := List.getElem?_of_mem (gL_mem.mpr (⟨Nat.zero_le _, rfl, Or.inl rfl⟩ : 0 ≤ 2 ∧ (o0 :: o1 :: some (.int x) :: r)[2 - 0]? = some (some (.int x)) ∧ ((Value.int x).category = 1 ∨ 2 = M.c2)))
  exact lv_iinc O.hx O.hb d hl (k := q) hq hv (by have h9 := hL; simp only [List.length_cons] at h9; omega) rfl (fun la' hl' => kk O H locs la' hI hS (gL_put (i := 2) (by simp only [List.length_cons]; omega) hc hl') (by have h9 := hL; simp only [List.length_cons] at h9 ⊢; exact h9))
theorem g_iloadw3 {o0 o1 o2 : Option Value} {r : List (Option Value)} {x : Int32} (d : decode cc pc = .ok (.iload 3, 2)) (kk : V E cc own M Po Px X h k n (pc + 2) (o0 :: o1 :: o2 :: some (.int x) :: r) (.int x :: st)) : V E cc own M Po Px X h k n pc (o0 :: o1 :: o2 :: some (.int x) :: r) st := fun O H locs la hI hS hl hL => lv_iload O.hx O.hb d (gL_at hl (i := 3) rfl (Or.inl rfl)) (kk O H locs la hI hS hl hL)
theorem g_iload3 {o0 o1 o2 : Option Value} {r : List (Option Value)} {x : Int32} (d : decode cc pc = .ok (.iload_n 3, 1)) (kk : V E cc own M Po Px X h k n (pc + 1) (o0 :: o1 :: o2 :: some (.int x) :: r) (.int x :: st)) : V E cc own M Po Px X h k n pc (o0 :: o1 :: o2 :: some (.int x) :: r) st := fun O H locs la hI hS hl hL => lv_iload_n O.hx O.hb d rfl (gL_at hl (i := 3) rfl (Or.inl rfl)) (kk O H locs la hI hS hl hL)
theorem g_aloadw3 {o0 o1 o2 : Option Value} {r : List (Option Value)} {x : Nat} (d : decode cc pc = .ok (.aload 3, 2)) (kk : V E cc own M Po Px X h k n (pc + 2) (o0 :: o1 :: o2 :: some (.ref x) :: r) (.ref x :: st)) : V E cc own M Po Px X h k n pc (o0 :: o1 :: o2 :: some (.ref x) :: r) st := fun O H locs la hI hS hl hL => lv_aload O.hx O.hb d (gL_at hl (i := 3) rfl (Or.inl rfl)) (kk O H locs la hI hS hl hL)
theorem g_aload3 {o0 o1 o2 : Option Value} {r : List (Option Value)} {x : Nat} (d : decode cc pc = .ok (.aload_n 3, 1)) (kk : V E cc own M Po Px X h k n (pc + 1) (o0 :: o1 :: o2 :: some (.ref x) :: r) (.ref x :: st)) : V E cc own M Po Px X h k n pc (o0 :: o1 :: o2 :: some (.ref x) :: r) st := fun O H locs la hI hS hl hL => lv_aload_n O.hx O.hb d rfl (gL_at hl (i := 3) rfl (Or.inl rfl)) (kk O H locs la hI hS hl hL)
theorem g_aloadNw3 {o0 o1 o2 : Option Value} {r : List (Option Value)} (d : decode cc pc = .ok (.aload 3, 2)) (kk : V E cc own M Po Px X h k n (pc + 2) (o0 :: o1 :: o2 :: some (.null) :: r) (.null :: st)) : V E cc own M Po Px X h k n pc (o0 :: o1 :: o2 :: some (.null) :: r) st := fun O H locs la hI hS hl hL => lv_aloadN O.hx O.hb d (gL_at hl (i := 3) rfl (Or.inl rfl)) (kk O H locs la hI hS hl hL)
theorem g_aloadN3 {o0 o1 o2 : Option Value} {r : List (Option Value)} (d : decode cc pc = .ok (.aload_n 3, 1)) (kk : V E cc own M Po Px X h k n (pc + 1) (o0 :: o1 :: o2 :: some (.null) :: r) (.null :: st)) : V E cc own M Po Px X h k n pc (o0 :: o1 :: o2 :: some (.null) :: r) st := fun O H locs la hI hS hl hL => lv_aload_nN O.hx O.hb d rfl (gL_at hl (i := 3) rfl (Or.inl rfl)) (kk O H locs la hI hS hl hL)
theorem g_floadw3 {o0 o1 o2 : Option Value} {r : List (Option Value)} {x : UInt32} (d : decode cc pc = .ok (.fload 3, 2)) (kk : V E cc own M Po Px X h k n (pc + 2) (o0 :: o1 :: o2 :: some (.float x) :: r) (.float x :: st)) : V E cc own M Po Px X h k n pc (o0 :: o1 :: o2 :: some (.float x) :: r) st := fun O H locs la hI hS hl hL => lv_fload O.hx O.hb d (gL_at hl (i := 3) rfl (Or.inl rfl)) (kk O H locs la hI hS hl hL)
theorem g_fload3 {o0 o1 o2 : Option Value} {r : List (Option Value)} {x : UInt32} (d : decode cc pc = .ok (.fload_n 3, 1)) (kk : V E cc own M Po Px X h k n (pc + 1) (o0 :: o1 :: o2 :: some (.float x) :: r) (.float x :: st)) : V E cc own M Po Px X h k n pc (o0 :: o1 :: o2 :: some (.float x) :: r) st := fun O H locs la hI hS hl hL => lv_fload_n O.hx O.hb d rfl (gL_at hl (i := 3) rfl (Or.inl rfl)) (kk O H locs la hI hS hl hL)
theorem g_aloadQw3 {o0 o1 o2 : Option Value} {r : List (Option Value)} {y : Option Nat} (d : decode cc pc = .ok (.aload 3, 2)) (kk : V E cc own M Po Px X h k n (pc + 2) (o0 :: o1 :: o2 :: some (va_rf y) :: r) (va_rf y :: st)) : V E cc own M Po Px X h k n pc (o0 :: o1 :: o2 :: some (va_rf y) :: r) st := by
  cases y with
  | none => exact g_aloadNw3 d kk
  | some a => exact g_aloadw3 d kk
theorem g_aloadQ3 {o0 o1 o2 : Option Value} {r : List (Option Value)} {y : Option Nat} (d : decode cc pc = .ok (.aload_n 3, 1)) (kk : V E cc own M Po Px X h k n (pc + 1) (o0 :: o1 :: o2 :: some (va_rf y) :: r) (va_rf y :: st)) : V E cc own M Po Px X h k n pc (o0 :: o1 :: o2 :: some (va_rf y) :: r) st := by
  cases y with
  | none => exact g_aloadN3 d kk
  | some a => exact g_aload3 d kk
theorem g_istorew3 {o0 o1 o2 o3 : Option Value} {r : List (Option Value)} {x : Int32} (d : decode cc pc = .ok (.istore 3, 2)) (hc : ¬ 3 = M.c2 + 1) (kk : V E cc own M Po Px X h k n (pc + 2) (o0 :: o1 :: o2 :: some (.int x) :: r) st) : V E cc own M Po Px X h k n pc (o0 :: o1 :: o2 :: o3 :: r) (.int x :: st) := fun O H locs la hI hS hl hL => lv_istore O.hx O.hb d hl (by have h9 := hL; simp only [List.length_cons] at h9; omega) rfl (fun la' hl' => kk O H locs la' hI hS (gL_put (i := 3) (by simp only [List.length_cons]; omega) hc hl') (by have h9 := hL; simp only [List.length_cons] at h9 ⊢; exact h9))
theorem g_istore3 {o0 o1 o2 o3 : Option Value} {r : List (Option Value)} {x : Int32} (d : decode cc pc = .ok (.istore_n 3, 1)) (hc : ¬ 3 = M.c2 + 1) (kk : V E cc own M Po Px X h k n (pc + 1) (o0 :: o1 :: o2 :: some (.int x) :: r) st) : V E cc own M Po Px X h k n pc (o0 :: o1 :: o2 :: o3 :: r) (.int x :: st) := fun O H locs la hI hS hl hL => lv_istore_n O.hx O.hb d rfl hl (by have h9 := hL; simp only [List.length_cons] at h9; omega) rfl (fun la' hl' => kk O H locs la' hI hS (gL_put (i := 3) (by simp only [List.length_cons]; omega) hc hl') (by have h9 := hL; simp only [List.length_cons] at h9 ⊢; exact h9))
theorem g_astorew3 {o0 o1 o2 o3 : Option Value} {r : List (Option Value)} {x : Nat} (d : decode cc pc = .ok (.astore 3, 2)) (hc : ¬ 3 = M.c2 + 1) (kk : V E cc own M Po Px X h k n (pc + 2) (o0 :: o1 :: o2 :: some (.ref x) :: r) st) : V E cc own M Po Px X h k n pc (o0 :: o1 :: o2 :: o3 :: r) (.ref x :: st) := fun O H locs la hI hS hl hL => lv_astore O.hx O.hb d hl (by have h9 := hL; simp only [List.length_cons] at h9; omega) rfl (fun la' hl' => kk O H locs la' hI hS (gL_put (i := 3) (by simp only [List.length_cons]; omega) hc hl') (by have h9 := hL; simp only [List.length_cons] at h9 ⊢; exact h9))
theorem g_astore3 {o0 o1 o2 o3 : Option Value} {r : List (Option Value)} {x : Nat} (d : decode cc pc = .ok (.astore_n 3, 1)) (hc : ¬ 3 = M.c2 + 1) (kk : V E cc own M Po Px X h k n (pc + 1) (o0 :: o1 :: o2 :: some (.ref x) :: r) st) : V E cc own M Po Px X h k n pc (o0 :: o1 :: o2 :: o3 :: r) (.ref x :: st) := fun O H locs la hI hS hl hL => lv_astore_n O.hx O.hb d rfl hl (by have h9 := hL; simp only [List.length_cons] at h9; omega) rfl (fun la' hl' => kk O H locs la' hI hS (gL_put (i := 3) (by simp only [List.length_cons]; omega) hc hl') (by have h9 := hL; simp only [List.length_cons] at h9 ⊢; exact h9))
theorem g_astoreNw3 {o0 o1 o2 o3 : Option Value} {r : List (Option Value)} (d : decode cc pc = .ok (.astore 3, 2)) (hc : ¬ 3 = M.c2 + 1) (kk : V E cc own M Po Px X h k n (pc + 2) (o0 :: o1 :: o2 :: some (.null) :: r) st) : V E cc own M Po Px X h k n pc (o0 :: o1 :: o2 :: o3 :: r) (.null :: st) := fun O H locs la hI hS hl hL => lv_astoreN O.hx O.hb d hl (by have h9 := hL; simp only [List.length_cons] at h9; omega) rfl (fun la' hl' => kk O H locs la' hI hS (gL_put (i := 3) (by simp only [List.length_cons]; omega) hc hl') (by have h9 := hL; simp only [List.length_cons] at h9 ⊢; exact h9))
theorem g_astoreN3 {o0 o1 o2 o3 : Option Value} {r : List (Option Value)} (d : decode cc pc = .ok (.astore_n 3, 1)) (hc : ¬ 3 = M.c2 + 1) (kk : V E cc own M Po Px X h k n (pc + 1) (o0 :: o1 :: o2 :: some (.null) :: r) st) : V E cc own M Po Px X h k n pc (o0 :: o1 :: o2 :: o3 :: r) (.null :: st) := fun O H locs la hI hS hl hL => lv_astore_nN O.hx O.hb d rfl hl (by have h9 := hL; simp only [List.length_cons] at h9; omega) rfl (fun la' hl' => kk O H locs la' hI hS (gL_put (i := 3) (by simp only [List.length_cons]; omega) hc hl') (by have h9 := hL; simp only [List.length_cons] at h9 ⊢; exact h9))
theorem g_astoreQw3 {o0 o1 o2 o3 : Option Value} {r : List (Option Value)} {y : Option Nat} (d : decode cc pc = .ok (.astore 3, 2)) (hc : ¬ 3 = M.c2 + 1) (kk : V E cc own M Po Px X h k n (pc + 2) (o0 :: o1 :: o2 :: some (va_rf y) :: r) st) : V E cc own M Po Px X h k n pc (o0 :: o1 :: o2 :: o3 :: r) (va_rf y :: st) := by
  cases y with
  | none => exact g_astoreNw3 d hc kk
  | some a => exact g_astorew3 d hc kk
theorem g_astoreQ3 {o0 o1 o2 o3 : Option Value} {r : List (Option Value)} {y : Option Nat} (d : decode cc pc = .ok (.astore_n 3, 1)) (hc : ¬ 3 = M.c2 + 1) (kk : V E cc own M Po Px X h k n (pc + 1) (o0 :: o1 :: o2 :: some (va_rf y) :: r) st) : V E cc own M Po Px X h k n pc (o0 :: o1 :: o2 :: o3 :: r) (va_rf y :: st) := by
  cases y with
  | none => exact g_astoreN3 d hc kk
  | some a => exact g_astore3 d hc kk
theorem g_iinc3 {o0 o1 o2 : Option Value} {r : List (Option Value)} {x : Int32} {z : Int} (v : Int32) (d : decode cc pc = .ok (.iinc 3 z, 3)) (hv : x + Int32.ofInt z = v) (hc : ¬ 3 = M.c2 + 1) (kk : V E cc own M Po Px X h k n (pc + 3) (o0 :: o1 :: o2 :: some (.int v) :: r) st) : V E cc own M Po Px X h k n pc (o0 :: o1 :: o2 :: some (.int x) :: r) st := by
  intro O H locs la hI hS hl hL
  obtain ⟨q, hq⟩ := List.getElem?_of_mem (gL_mem.mpr (⟨Nat.zero_le _, rfl, Or.inl rfl⟩ : 0 ≤ 3 ∧ (o0 :: o1 :: o2 :: some (.int x) :: r)[3 - 0]? = some (some (.int x)) ∧ ((Value.int x).category = 1 ∨ 3 = M.c2)))
  exact lv_iinc O.hx O.hb d hl (k := q) hq hv (by have h9 := hL; simp only [List.length_cons] at h9; omega) rfl (fun la' hl' => kk O H locs la' hI hS (gL_put (i := 3) (by simp only [List.length_cons]; omega) hc hl') (by have h9 := hL; simp only [List.length_cons] at h9 ⊢; exact h9))
theorem g_iload4 {o0 o1 o2 o3 : Option Value} {r : List (Option Value)} {x : Int32} (d : decode cc pc = .ok (.iload 4, 2)) (kk : V E cc own M Po Px X h k n (pc + 2) (o0 :: o1 :: o2 :: o3 :: some (.int x) :: r) (.int x :: st)) : V E cc own M Po Px X h k n pc (o0 :: o1 :: o2 :: o3 :: some (.int x) :: r) st := fun O H locs la hI hS hl hL => lv_iload O.hx O.hb d (gL_at hl (i := 4) rfl (Or.inl rfl)) (kk O H locs la hI hS hl hL)
theorem g_aload4 {o0 o1 o2 o3 : Option Value} {r : List (Option Value)} {x : Nat} (d : decode cc pc = .ok (.aload 4, 2)) (kk : V E cc own M Po Px X h k n (pc + 2) (o0 :: o1 :: o2 :: o3 :: some (.ref x) :: r) (.ref x :: st)) : V E cc own M Po Px X h k n pc (o0 :: o1 :: o2 :: o3 :: some (.ref x) :: r) st := fun O H locs la hI hS hl hL => lv_aload O.hx O.hb d (gL_at hl (i := 4) rfl (Or.inl rfl)) (kk O H locs la hI hS hl hL)
theorem g_aloadN4 {o0 o1 o2 o3 : Option Value} {r : List (Option Value)} (d : decode cc pc = .ok (.aload 4, 2)) (kk : V E cc own M Po Px X h k n (pc + 2) (o0 :: o1 :: o2 :: o3 :: some (.null) :: r) (.null :: st)) : V E cc own M Po Px X h k n pc (o0 :: o1 :: o2 :: o3 :: some (.null) :: r) st := fun O H locs la hI hS hl hL => lv_aloadN O.hx O.hb d (gL_at hl (i := 4) rfl (Or.inl rfl)) (kk O H locs la hI hS hl hL)
theorem g_fload4 {o0 o1 o2 o3 : Option Value} {r : List (Option Value)} {x : UInt32} (d : decode cc pc = .ok (.fload 4, 2)) (kk : V E cc own M Po Px X h k n (pc + 2) (o0 :: o1 :: o2 :: o3 :: some (.float x) :: r) (.float x :: st)) : V E cc own M Po Px X h k n pc (o0 :: o1 :: o2 :: o3 :: some (.float x) :: r) st := fun O H locs la hI hS hl hL => lv_fload O.hx O.hb d (gL_at hl (i := 4) rfl (Or.inl rfl)) (kk O H locs la hI hS hl hL)
theorem g_aloadQ4 {o0 o1 o2 o3 : Option Value} {r : List (Option Value)} {y : Option Nat} (d : decode cc pc = .ok (.aload 4, 2)) (kk : V E cc own M Po Px X h k n (pc + 2) (o0 :: o1 :: o2 :: o3 :: some (va_rf y) :: r) (va_rf y :: st)) : V E cc own M Po Px X h k n pc (o0 :: o1 :: o2 :: o3 :: some (va_rf y) :: r) st := by
  cases y with
  | none => exact g_aloadN4 d kk
  | some a => exact g_aload4 d kk
theorem g_istore4 {o0 o1 o2 o3 o4 : Option Value} {r : List (Option Value)} {x : Int32} (d : decode cc pc = .ok (.istore 4, 2)) (hc : ¬ 4 = M.c2 + 1) (kk : V E cc own M Po Px X h k n (pc + 2) (o0 :: o1 :: o2 :: o3 :: some (.int x) :: r) st) : V E cc own M Po Px X h k n pc (o0 :: o1 :: o2 :: o3 :: o4 :: r) (.int x :: st) := fun O H locs la hI hS hl hL => lv_istore O.hx O.hb d hl (by have h9 := hL; simp only [List.length_cons] at h9; omega) rfl (fun la' hl' => kk O H locs la' hI hS (gL_put (i := 4) (by simp only [List.length_cons]; omega) hc hl') (by have h9 := hL; simp only [List.length_cons] at h9 ⊢; exact h9))
theorem g_astore4 {o0 o1 o2 o3 o4 : Option Value} {r : List (Option Value)} {x : Nat} (d : decode cc pc = .ok (.astore 4, 2)) (hc : ¬ 4 = M.c2 + 1) (kk : V E cc own M Po Px X h k n (pc + 2) (o0 :: o1 :: o2 :: o3 :: some (.ref x) :: r) st) : V E cc own M Po Px X h k n pc (o0 :: o1 :: o2 :: o3 :: o4 :: r) (.ref x :: st) := fun O H locs la hI hS hl hL => lv_astore O.hx O.hb d hl (by have h9 := hL; simp only [List.length_cons] at h9; omega) rfl (fun la' hl' => kk O H locs la' hI hS (gL_put (i := 4) (by simp only [List.length_cons]; omega) hc hl') (by have h9 := hL; simp only [List.length_cons] at h9 ⊢; exact h9))
theorem g_astoreN4 {o0 o1 o2 o3 o4 : Option Value} {r : List (Option Value)} (d : decode cc pc = .ok (.astore 4, 2)) (hc : ¬ 4 = M.c2 + 1) (kk : V E cc own M Po Px X h k n (pc + 2) (o0 :: o1 :: o2 :: o3 :: some (.null) :: r) st) : V E cc own M Po Px X h k n pc (o0 :: o1 :: o2 :: o3 :: o4 :: r) (.null :: st) := fun O H locs la hI hS hl hL => lv_astoreN O.hx O.hb d hl (by have h9 := hL; simp only [List.length_cons] at h9; omega) rfl (fun la' hl' => kk O H locs la' hI hS (gL_put (i := 4) (by simp only [List.length_cons]; omega) hc hl') (by have h9 := hL; simp only [List.length_cons] at h9 ⊢; exact h9))
theorem g_astoreQ4 {o0 o1 o2 o3 o4 : Option Value} {r : List (Option Value)} {y : Option Nat} (d : decode cc pc = .ok (.astore 4, 2)) (hc : ¬ 4 = M.c2 + 1) (kk : V E cc own M Po Px X h k n (pc + 2) (o0 :: o1 :: o2 :: o3 :: some (va_rf y) :: r) st) : V E cc own M Po Px X h k n pc (o0 :: o1 :: o2 :: o3 :: o4 :: r) (va_rf y :: st) := by
  cases y with
  | none => exact g_astoreN4 d hc kk
  | some a => exact g_astore4 d hc kk
theorem g_iinc4 {o0 o1 o2 o3 : Option Value} {r : List (Option Value)} {x : Int32} {z : Int} (v : Int32) (d : decode cc pc = .ok (.iinc 4 z, 3)) (hv : x + Int32.ofInt z = v) (hc : ¬ 4 = M.c2 + 1) (kk : V E cc own M Po Px X h k n (pc + 3) (o0 :: o1 :: o2 :: o3 :: some (.int v) :: r) st) : V E cc own M Po Px X h k n pc (o0 :: o1 :: o2 :: o3 :: some (.int x) :: r) st := by
  intro O H locs la hI hS hl hL
  obtain ⟨q, hq⟩ := List.getElem?_of_mem (gL_mem.mpr (⟨Nat.zero_le _, rfl, Or.inl rfl⟩ : 0 ≤ 4 ∧ (o0 :: o1 :: o2 :: o3 :: some (.int x) :: r)[4 - 0]? = some (some (.int x)) ∧ ((Value.int x).category = 1 ∨ 4 = M.c2)))
  exact lv_iinc O.hx O.hb d hl (k := q) hq hv (by have h9 := hL; simp only [List.length_cons] at h9; omega) rfl (fun la' hl' => kk O H locs la' hI hS (gL_put (i := 4) (by simp only [List.length_cons]; omega) hc hl') (by have h9 := hL; simp only [List.length_cons] at h9 ⊢; exact h9))
theorem g_iload5 {o0 o1 o2 o3 o4 : Option Value} {r : List (Option Value)} {x : Int32} (d : decode cc pc = .ok (.iload 5, 2)) (kk : V E cc own M Po Px X h k n (pc + 2) (o0 :: o1 :: o2 :: o3 :: o4 :: some (.int x) :: r) (.int x :: st)) : V E cc own M Po Px X h k n pc (o0 :: o1 :: o2 :: o3 :: o4 :: some (.int x) :: r) st := fun O H locs la hI hS hl hL => lv_iload O.hx O.hb d (gL_at hl (i := 5) rfl (Or.inl rfl)) (kk O H locs la hI hS hl hL)
theorem g_aload5 {o0 o1 o2 o3 o4 : Option Value} {r : List (Option Value)} {x : Nat} (d : decode cc pc = .ok (.aload 5, 2)) (kk : V E cc own M Po Px X h k n (pc + 2) (o0 :: o1 :: o2 :: o3 :: o4 :: some (.ref x) :: r) (.ref x :: st)) : V E cc own M Po Px X h k n pc (o0 :: o1 :: o2 :: o3 :: o4 :: some (.ref x) :: r) st := fun O H locs la hI hS hl hL => lv_aload O.hx O.hb d (gL_at hl (i := 5) rfl (Or.inl rfl)) (kk O H locs la hI hS hl hL)
theorem g_aloadN5 {o0 o1 o2 o3 o4 : Option Value} {r : List (Option Value)} (d : decode cc pc = .ok (.aload 5, 2)) (kk : V E cc own M Po Px X h k n (pc + 2) (o0 :: o1 :: o2 :: o3 :: o4 :: some (.null) :: r) (.null :: st)) : V E cc own M Po Px X h k n pc (o0 :: o1 :: o2 :: o3 :: o4 :: some (.null) :: r) st := fun O H locs la hI hS hl hL => lv_aloadN O.hx O.hb d (gL_at hl (i := 5) rfl (Or.inl rfl)) (kk O H locs la hI hS hl hL)
theorem g_fload5 {o0 o1 o2 o3 o4 : Option Value} {r : List (Option Value)} {x : UInt32} (d : decode cc pc = .ok (.fload 5, 2)) (kk : V E cc own M Po Px X h k n (pc + 2) (o0 :: o1 :: o2 :: o3 :: o4 :: some (.float x) :: r) (.float x :: st)) : V E cc own M Po Px X h k n pc (o0 :: o1 :: o2 :: o3 :: o4 :: some (.float x) :: r) st := fun O H locs la hI hS hl hL => lv_fload O.hx O.hb d (gL_at hl (i := 5) rfl (Or.inl rfl)) (kk O H locs la hI hS hl hL)
theorem g_aloadQ5 {o0 o1 o2 o3 o4 : Option Value} {r : List (Option Value)} {y : Option Nat} (d : decode cc pc = .ok (.aload 5, 2)) (kk : V E cc own M Po Px X h k n (pc + 2) (o0 :: o1 :: o2 :: o3 :: o4 :: some (va_rf y) :: r) (va_rf y :: st)) : V E cc own M Po Px X h k n pc (o0 :: o1 :: o2 :: o3 :: o4 :: some (va_rf y) :: r) st := by
  cases y with
  | none => exact g_aloadN5 d kk
  | some a => exact g_aload5 d kk
theorem g_istore5 {o0 o1 o2 o3 o4 o5 : Option Value} {r : List (Option Value)} {x : Int32} (d : decode cc pc = .ok (.istore 5, 2)) (hc : ¬ 5 = M.c2 + 1) (kk : V E cc own M Po Px X h k n (pc + 2) (o0 :: o1 :: o2 :: o3 :: o4 :: some (.int x) :: r) st) : V E cc own M Po Px X h k n pc (o0 :: o1 :: o2 :: o3 :: o4 :: o5 :: r) (.int x :: st) := fun O H locs la hI hS hl hL => lv_istore O.hx O.hb d hl (by have h9 := hL; simp only [List.length_cons] at h9; omega) rfl (fun la' hl' => kk O H locs la' hI hS (gL_put (i := 5) (by simp only [List.length_cons]; omega) hc hl') (by have h9 := hL; simp only [List.length_cons] at h9 ⊢; exact h9))
theorem g_astore5 {o0 o1 o2 o3 o4 o5 : Option Value} {r : List (Option Value)} {x : Nat} (d : decode cc pc = .ok (.astore 5, 2)) (hc : ¬ 5 = M.c2 + 1) (kk : V E cc own M Po Px X h k n (pc + 2) (o0 :: o1 :: o2 :: o3 :: o4 :: some (.ref x) :: r) st) : V E cc own M Po Px X h k n pc (o0 :: o1 :: o2 :: o3 :: o4 :: o5 :: r) (.ref x :: st) := fun O H locs la hI hS hl hL => lv_astore O.hx O.hb d hl (by have h9 := hL; simp only [List.length_cons] at h9; omega) rfl (fun la' hl' => kk O H locs la' hI hS (gL_put (i := 5) (by simp only [List.length_cons]; omega) hc hl') (by have h9 := hL; simp only [List.length_cons] at h9 ⊢; exact h9))
theorem g_astoreN5 {o0 o1 o2 o3 o4 o5 : Option Value} {r : List (Option Value)} (d : decode cc pc = .ok (.astore 5, 2)) (hc : ¬ 5 = M.c2 + 1) (kk : V E cc own M Po Px X h k n (pc + 2) (o0 :: o1 :: o2 :: o3 :: o4 :: some (.null) :: r) st) : V E cc own M Po Px X h k n pc (o0 :: o1 :: o2 :: o3 :: o4 :: o5 :: r) (.null :: st) := fun O H locs la hI hS hl hL => lv_astoreN O.hx O.hb d hl (by have h9 := hL; simp only [List.length_cons] at h9; omega) rfl (fun la' hl' => kk O H locs la' hI hS (gL_put (i := 5) (by simp only [List.length_cons]; omega) hc hl') (by have h9 := hL; simp only [List.length_cons] at h9 ⊢; exact h9))
theorem g_astoreQ5 {o0 o1 o2 o3 o4 o5 : Option Value} {r : List (Option Value)} {y : Option Nat} (d : decode cc pc = .ok (.astore 5, 2)) (hc : ¬ 5 = M.c2 + 1) (kk : V E cc own M Po Px X h k n (pc + 2) (o0 :: o1 :: o2 :: o3 :: o4 :: some (va_rf y) :: r) st) : V E cc own M Po Px X h k n pc (o0 :: o1 :: o2 :: o3 :: o4 :: o5 :: r) (va_rf y :: st) := by
  cases y with
  | none => exact g_astoreN5 d hc kk
  | some a => exact g_astore5 d hc kk
theorem g_iinc5 {o0 o1 o2 o3 o4 : Option Value} {r : List (Option Value)} {x : Int32} {z : Int} (v : Int32) (d : decode cc pc = .ok (.iinc 5 z, 3)) (hv : x + Int32.ofInt z = v) (hc : ¬ 5 = M.c2 + 1) (kk : V E cc own M Po Px X h k n (pc + 3) (o0 :: o1 :: o2 :: o3 :: o4 :: some (.int v) :: r) st) : V E cc own M Po Px X h k n pc (o0 :: o1 :: o2 :: o3 :: o4 :: some (.int x) :: r) st := by
  intro O H locs la hI hS hl hL
  obtain ⟨q, hq⟩ := List.getElem?_of_mem (gL_mem.mpr (⟨Nat.zero_le _, rfl, Or.inl rfl⟩ : 0 ≤ 5 ∧ (o0 :: o1 :: o2 :: o3 :: o4 :: some (.int x) :: r)[5 - 0]? = some (some (.int x)) ∧ ((Value.int x).category = 1 ∨ 5 = M.c2)))
  exact lv_iinc O.hx O.hb d hl (k := q) hq hv (by have h9 := hL; simp only [List.length_cons] at h9; omega) rfl (fun la' hl' => kk O H locs la' hI hS (gL_put (i := 5) (by simp only [List.length_cons]; omega) hc hl') (by have h9 := hL; simp only [List.length_cons] at h9 ⊢; exact h9))
theorem g_iload6 {o0 o1 o2 o3 o4 o5 : Option Value} {r : List (Option Value)} {x : Int32} (d : decode cc pc = .ok (.iload 6, 2)) (kk : V E cc own M Po Px X h k n (pc + 2) (o0 :: o1 :: o2 :: o3 :: o4 :: o5 :: some (.int x) :: r) (.int x :: st)) : V E cc own M Po Px X h k n pc (o0 :: o1 :: o2 :: o3 :: o4 :: o5 :: some (.int x) :: r) st := fun O H locs la hI hS hl hL => lv_iload O.hx O.hb d (gL_at hl (i := 6) rfl (Or.inl rfl)) (kk O H locs la hI hS hl hL)
theorem g_aload6 {o0 o1 o2 o3 o4 o5 : Option Value} {r : List (Option Value)} {x : Nat} (d : decode cc pc = .ok (.aload 6, 2)) (kk : V E cc own M Po Px X h k n (pc + 2) (o0 :: o1 :: o2 :: o3 :: o4 :: o5 :: some (.ref x) :: r) (.ref x :: st)) : V E cc own M Po Px X h k n pc (o0 :: o1 :: o2 :: o3 :: o4 :: o5 :: some (.ref x) :: r) st := fun O H locs la hI hS hl hL => lv_aload O.hx O.hb d (gL_at hl (i := 6) rfl (Or.inl rfl)) (kk O H locs la hI hS hl hL)
theorem g_aloadN6 {o0 o1 o2 o3 o4 o5 : Option Value} {r : List (Option Value)} (d : decode cc pc = .ok (.aload 6, 2)) (kk : V E cc own M Po Px X h k n (pc + 2) (o0 :: o1 :: o2 :: o3 :: o4 :: o5 :: some (.null) :: r) (.null :: st)) : V E cc own M Po Px X h k n pc (o0 :: o1 :: o2 :: o3 :: o4 :: o5 :: some (.null) :: r) st := fun O H locs la hI hS hl hL => lv_aloadN O.hx O.hb d (gL_at hl (i := 6) rfl (Or.inl rfl)) (kk O H locs la hI hS hl hL)
theorem g_fload6 {o0 o1 o2 o3 o4 o5 : Option Value} {r : List (Option Value)} {x : UInt32} (d : decode cc pc = .ok (.fload 6, 2)) (kk : V E cc own M Po Px X h k n (pc + 2) (o0 :: o1 :: o2 :: o3 :: o4 :: o5 :: some (.float x) :: r) (.float x :: st)) : V E cc own M Po Px X h k n pc (o0 :: o1 :: o2 :: o3 :: o4 :: o5 :: some (.float x) :: r) st := fun O H locs la hI hS hl hL => lv_fload O.hx O.hb d (gL_at hl (i := 6) rfl (Or.inl rfl)) (kk O H locs la hI hS hl hL)
theorem g_aloadQ6 {o0 o1 o2 o3 o4 o5 : Option Value} {r : List (Option Value)} {y : Option Nat} (d : decode cc pc = .ok (.aload 6, 2)) (kk : V E cc own M Po Px X h k n (pc + 2) (o0 :: o1 :: o2 :: o3 :: o4 :: o5 :: some (va_rf y) :: r) (va_rf y :: st)) : V E cc own M Po Px X h k n pc (o0 :: o1 :: o2 :: o3 :: o4 :: o5 :: some (va_rf y) :: r) st := by
  cases y with
  | none => exact g_aloadN6 d kk
  | some a => exact g_aload6 d kk
theorem g_istore6 {o0 o1 o2 o3 o4 o5 o6 : Option Value} {r : List (Option Value)} {x : Int32} (d : decode cc pc = .ok (.istore 6, 2)) (hc : ¬ 6 = M.c2 + 1) (kk : V E cc own M Po Px X h k n (pc + 2) (o0 :: o1 :: o2 :: o3 :: o4 :: o5 :: some (.int x) :: r) st) : V E cc own M Po Px X h k n pc (o0 :: o1 :: o2 :: o3 :: o4 :: o5 :: o6 :: r) (.int x :: st) := fun O H locs la hI hS hl hL => lv_istore O.hx O.hb d hl (by have h9 := hL; simp only [List.length_cons] at h9; omega) rfl (fun la' hl' => kk O H locs la' hI hS (gL_put (i := 6) (by simp only [List.length_cons]; omega) hc hl') (by have h9 := hL; simp only [List.length_cons] at h9 ⊢; exact h9))
theorem g_astore6 {o0 o1 o2 o3 o4 o5 o6 : Option Value} {r : List (Option Value)} {x : Nat} (d : decode cc pc = .ok (.astore 6, 2)) (hc : ¬ 6 = M.c2 + 1) (kk : V E cc own M Po Px X h k n (pc + 2) (o0 :: o1 :: o2 :: o3 :: o4 :: o5 :: some (.ref x) :: r) st) : V E cc own M Po Px X h k n pc (o0 :: o1 :: o2 :: o3 :: o4 :: o5 :: o6 :: r) (.ref x :: st) := fun O H locs la hI hS hl hL => lv_astore O.hx O.hb d hl (by have h9 := hL; simp only [List.length_cons] at h9; omega) rfl (fun la' hl' => kk O H locs la' hI hS (gL_put (i := 6) (by simp only [List.length_cons]; omega) hc hl') (by have h9 := hL; simp only [List.length_cons] at h9 ⊢; exact h9))
theorem g_astoreN6 {o0 o1 o2 o3 o4 o5 o6 : Option Value} {r : List (Option Value)} (d : decode cc pc = .ok (.astore 6, 2)) (hc : ¬ 6 = M.c2 + 1) (kk : V E cc own M Po Px X h k n (pc + 2) (o0 :: o1 :: o2 :: o3 :: o4 :: o5 :: some (.null) :: r) st) : V E cc own M Po Px X h k n pc (o0 :: o1 :: o2 :: o3 :: o4 :: o5 :: o6 :: r) (.null :: st) := fun O H locs la hI hS hl hL => lv_astoreN O.hx O.hb d hl (by have h9 := hL; simp only [List.length_cons] at h9; omega) rfl (fun la' hl' => kk O H locs la' hI hS (gL_put (i := 6) (by simp only [List.length_cons]; omega) hc hl') (by have h9 := hL; simp only [List.length_cons] at h9 ⊢; exact h9))
theorem g_astoreQ6 {o0 o1 o2 o3 o4 o5 o6 : Option Value} {r : List (Option Value)} {y : Option Nat} (d : decode cc pc = .ok (.astore 6, 2)) (hc : ¬ 6 = M.c2 + 1) (kk : V E cc own M Po Px X h k n (pc + 2) (o0 :: o1 :: o2 :: o3 :: o4 :: o5 :: some (va_rf y) :: r) st) : V E cc own M Po Px X h k n pc (o0 :: o1 :: o2 :: o3 :: o4 :: o5 :: o6 :: r) (va_rf y :: st) := by
  cases y with
  | none => exact g_astoreN6 d hc kk
  | some a => exact g_astore6 d hc kk
theorem g_iinc6 {o0 o1 o2 o3 o4 o5 : Option Value} {r : List (Option Value)} {x : Int32} {z : Int} (v : Int32) (d : decode cc pc = .ok (.iinc 6 z, 3)) (hv : x + Int32.ofInt z = v) (hc : ¬ 6 = M.c2 + 1) (kk : V E cc own M Po Px X h k n (pc + 3) (o0 :: o1 :: o2 :: o3 :: o4 :: o5 :: some (.int v) :: r) st) : V E cc own M Po Px X h k n pc (o0 :: o1 :: o2 :: o3 :: o4 :: o5 :: some (.int x) :: r) st := by
  intro O H locs la hI hS hl hL
  obtain ⟨q, hq⟩ := List.getElem?_of_mem (gL_mem.mpr (⟨Nat.zero_le _, rfl, Or.inl rfl⟩ : 0 ≤ 6 ∧ (o0 :: o1 :: o2 :: o3 :: o4 :: o5 :: some (.int x) :: r)[6 - 0]? = some (some (.int x)) ∧ ((Value.int x).category = 1 ∨ 6 = M.c2)))
  exact lv_iinc O.hx O.hb d hl (k := q) hq hv (by have h9 := hL; simp only [List.length_cons] at h9; omega) rfl (fun la' hl' => kk O H locs la' hI hS (gL_put (i := 6) (by simp only [List.length_cons]; omega) hc hl') (by have h9 := hL; simp only [List.length_cons] at h9 ⊢; exact h9))
theorem g_iload7 {o0 o1 o2 o3 o4 o5 o6 : Option Value} {r : List (Option Value)} {x : Int32} (d : decode cc pc = .ok (.iload 7, 2)) (kk : V E cc own M Po Px X h k n (pc + 2) (o0 :: o1 :: o2 :: o3 :: o4 :: o5 :: o6 :: some (.int x) :: r) (.int x :: st)) : V E cc own M Po Px X h k n pc (o0 :: o1 :: o2 :: o3 :: o4 :: o5 :: o6 :: some (.int x) :: r) st := fun O H locs la hI hS hl hL => lv_iload O.hx O.hb d (gL_at hl (i := 7) rfl (Or.inl rfl)) (kk O H locs la hI hS hl hL)
theorem g_aload7 {o0 o1 o2 o3 o4 o5 o6 : Option Value} {r : List (Option Value)} {x : Nat} (d : decode cc pc = .ok (.aload 7, 2)) (kk : V E cc own M Po Px X h k n (pc + 2) (o0 :: o1 :: o2 :: o3 :: o4 :: o5 :: o6 :: some (.ref x) :: r) (.ref x :: st)) : V E cc own M Po Px X h k n pc (o0 :: o1 :: o2 :: o3 :: o4 :: o5 :: o6 :: some (.ref x) :: r) st := fun O H locs la hI hS hl hL => lv_aload O.hx O.hb d (gL_at hl (i := 7) rfl (Or.inl rfl)) (kk O H locs la hI hS hl hL)
theorem g_aloadN7 {o0 o1 o2 o3 o4 o5 o6 : Option Value} {r : List (Option Value)} (d : decode cc pc = .ok (.aload 7, 2)) (kk : V E cc own M Po Px X h k n (pc + 2) (o0 :: o1 :: o2 :: o3 :: o4 :: o5 :: o6 :: some (.null) :: r) (.null :: st)) : V E cc own M Po Px X h k n pc (o0 :: o1 :: o2 :: o3 :: o4 :: o5 :: o6 :: some (.null) :: r) st := fun O H locs la hI hS hl hL => lv_aloadN O.hx O.hb d (gL_at hl (i := 7) rfl (Or.inl rfl)) (kk O H locs la hI hS hl hL)
theorem g_fload7 {o0 o1 o2 o3 o4 o5 o6 : Option Value} {r : List (Option Value)} {x : UInt32} (d : decode cc pc = .ok (.fload 7, 2)) (kk : V E cc own M Po Px X h k n (pc + 2) (o0 :: o1 :: o2 :: o3 :: o4 :: o5 :: o6 :: some (.float x) :: r) (.float x :: st)) : V E cc own M Po Px X h k n pc (o0 :: o1 :: o2 :: o3 :: o4 :: o5 :: o6 :: some (.float x) :: r) st := fun O H locs la hI hS hl hL => lv_fload O.hx O.hb d (gL_at hl (i := 7) rfl (Or.inl rfl)) (kk O H locs la hI hS hl hL)
theorem g_aloadQ7 {o0 o1 o2 o3 o4 o5 o6 : Option Value} {r : List (Option Value)} {y : Option Nat} (d : decode cc pc = .ok (.aload 7, 2)) (kk : V E cc own M Po Px X h k n (pc + 2) (o0 :: o1 :: o2 :: o3 :: o4 :: o5 :: o6 :: some (va_rf y) :: r) (va_rf y :: st)) : V E cc own M Po Px X h k n pc (o0 :: o1 :: o2 :: o3 :: o4 :: o5 :: o6 :: some (va_rf y) :: r) st := by
  cases y with
  | none => exact g_aloadN7 d kk
  | some a => exact g_aload7 d kk
theorem g_istore7 {o0 o1 o2 o3 o4 o5 o6 o7 : Option Value} {r : List (Option Value)} {x : Int32} (d : decode cc pc = .ok (.istore 7, 2)) (hc : ¬ 7 = M.c2 + 1) (kk : V E cc own M Po Px X h k n (pc + 2) (o0 :: o1 :: o2 :: o3 :: o4 :: o5 :: o6 :: some (.int x) :: r) st) : V E cc own M Po Px X h k n pc (o0 :: o1 :: o2 :: o3 :: o4 :: o5 :: o6 :: o7 :: r) (.int x :: st) := fun O H locs la hI hS hl hL => lv_istore O.hx O.hb d hl (by have h9 := hL; simp only [List.length_cons] at h9; omega) rfl (fun la' hl' => kk O H locs la' hI hS (gL_put (i := 7) (by simp only [List.length_cons]; omega) hc hl') (by have h9 := hL; simp only [List.length_cons] at h9 ⊢; exact h9))
theorem g_astore7 {o0 o1 o2 o3 o4 o5 o6 o7 : Option Value} {r : List (Option Value)} {x : Nat} (d : decode cc pc = .ok (.astore 7, 2)) (hc : ¬ 7 = M.c2 + 1) (kk : V E cc own M Po Px X h k n (pc + 2) (o0 :: o1 :: o2 :: o3 :: o4 :: o5 :: o6 :: some (.ref x) :: r) st) : V E cc own M Po Px X h k n pc (o0 :: o1 :: o2 :: o3 :: o4 :: o5 :: o6 :: o7 :: r) (.ref x :: st) := fun O H locs la hI hS hl hL => lv_astore O.hx O.hb d hl (by have h9 := hL; simp only [List.length_cons] at h9; omega) rfl (fun la' hl' => kk O H locs la' hI hS (gL_put (i := 7) (by simp only [List.length_cons]; omega) hc hl') (by have h9 := hL; simp only [List.length_cons] at h9 ⊢; exact h9))
theorem g_astoreN7 {o0 o1 o2 o3 o4 o5 o6 o7 : Option Value} {r : List (Option Value)} (d : decode cc pc = .ok (.astore 7, 2)) (hc : ¬ 7 = M.c2 + 1) (kk : V E cc own M Po Px X h k n (pc + 2) (o0 :: o1 :: o2 :: o3 :: o4 :: o5 :: o6 :: some (.null) :: r) st) : V E cc own M Po Px X h k n pc (o0 :: o1 :: o2 :: o3 :: o4 :: o5 :: o6 :: o7 :: r) (.null :: st) := fun O H locs la hI hS hl hL => lv_astoreN O.hx O.hb d hl (by have h9 := hL; simp only [List.length_cons] at h9; omega) rfl (fun la' hl' => kk O H locs la' hI hS (gL_put (i := 7) (by simp only [List.length_cons]; omega) hc hl') (by have h9 := hL; simp only [List.length_cons] at h9 ⊢; exact h9))
theorem g_astoreQ7 {o0 o1 o2 o3 o4 o5 o6 o7 : Option Value} {r : List (Option Value)} {y : Option Nat} (d : decode cc pc = .ok (.astore 7, 2)) (hc : ¬ 7 = M.c2 + 1) (kk : V E cc own M Po Px X h k n (pc + 2) (o0 :: o1 :: o2 :: o3 :: o4 :: o5 :: o6 :: some (va_rf y) :: r) st) : V E cc own M Po Px X h k n pc (o0 :: o1 :: o2 :: o3 :: o4 :: o5 :: o6 :: o7 :: r) (va_rf y :: st) := by
  cases y with
  | none => exact g_astoreN7 d hc kk
  | some a => exact g_astore7 d hc kk
theorem g_iinc7 {o0 o1 o2 o3 o4 o5 o6 : Option Value} {r : List (Option Value)} {x : Int32} {z : Int} (v : Int32) (d : decode cc pc = .ok (.iinc 7 z, 3)) (hv : x + Int32.ofInt z = v) (hc : ¬ 7 = M.c2 + 1) (kk : V E cc own M Po Px X h k n (pc + 3) (o0 :: o1 :: o2 :: o3 :: o4 :: o5 :: o6 :: some (.int v) :: r) st) : V E cc own M Po Px X h k n pc (o0 :: o1 :: o2 :: o3 :: o4 :: o5 :: o6 :: some (.int x) :: r) st := by
  intro O H locs la hI hS hl hL
  obtain ⟨q, hq⟩ := List.getElem?_of_mem (gL_mem.mpr (⟨Nat.zero_le _, rfl, Or.inl rfl⟩ : 0 ≤ 7 ∧ (o0 :: o1 :: o2 :: o3 :: o4 :: o5 :: o6 :: some (.int x) :: r)[7 - 0]? = some (some (.int x)) ∧ ((Value.int x).category = 1 ∨ 7 = M.c2)))
  exact lv_iinc O.hx O.hb d hl (k := q) hq hv (by have h9 := hL; simp only [List.length_cons] at h9; omega) rfl (fun la' hl' => kk O H locs la' hI hS (gL_put (i := 7) (by simp only [List.length_cons]; omega) hc hl') (by have h9 := hL; simp only [List.length_cons] at h9 ⊢; exact h9))
theorem g_iload8 {o0 o1 o2 o3 o4 o5 o6 o7 : Option Value} {r : List (Option Value)} {x : Int32} (d : decode cc pc = .ok (.iload 8, 2)) (kk : V E cc own M Po Px X h k n (pc + 2) (o0 :: o1 :: o2 :: o3 :: o4 :: o5 :: o6 :: o7 :: some (.int x) :: r) (.int x :: st)) : V E cc own M Po Px X h k n pc (o0 :: o1 :: o2 :: o3 :: o4 :: o5 :: o6 :: o7 :: some (.int x) :: r) st := fun O H locs la hI hS hl hL => lv_iload O.hx O.hb d (gL_at hl (i := 8) rfl (Or.inl rfl)) (kk O H locs la hI hS hl hL)
theorem g_aload8 {o0 o1 o2 o3 o4 o5 o6 o7 : Option Value} {r : List (Option Value)} {x : Nat} (d : decode cc pc = .ok (.aload 8, 2)) (kk : V E cc own M Po Px X h k n (pc + 2) (o0 :: o1 :: o2 :: o3 :: o4 :: o5 :: o6 :: o7 :: some (.ref x) :: r) (.ref x :: st)) : V E cc own M Po Px X h k n pc (o0 :: o1 :: o2 :: o3 :: o4 :: o5 :: o6 :: o7 :: some (.ref x) :: r) st := fun O H locs la hI hS hl hL => lv_aload O.hx O.hb d (gL_at hl (i := 8) rfl (Or.inl rfl)) (kk O H locs la hI hS hl hL)
theorem g_aloadN8 {o0 o1 o2 o3 o4 o5 o6 o7 : Option Value} {r : List (Option Value)} (d : decode cc pc = .ok (.aload 8, 2)) (kk : V E cc own M Po Px X h k n (pc + 2) (o0 :: o1 :: o2 :: o3 :: o4 :: o5 :: o6 :: o7 :: some (.null) :: r) (.null :: st)) : V E cc own M Po Px X h k n pc (o0 :: o1 :: o2 :: o3 :: o4 :: o5 :: o6 :: o7 :: some (.null) :: r) st := fun O H locs la hI hS hl hL => lv_aloadN O.hx O.hb d (gL_at hl (i := 8) rfl (Or.inl rfl)) (kk O H locs la hI hS hl hL)
theorem g_fload8 {o0 o1 o2 o3 o4 o5 o6 o7 : Option Value} {r : List (Option Value)} {x : UInt32} (d : decode cc pc = .ok (.fload 8, 2)) (kk : V E cc own M Po Px X h k n (pc + 2) (o0 :: o1 :: o2 :: o3 :: o4 :: o5 :: o6 :: o7 :: some (.float x) :: r) (.float x :: st)) : V E cc own M Po Px X h k n pc (o0 :: o1 :: o2 :: o3 :: o4 :: o5 :: o6 :: o7 :: some (.float x) :: r) st := fun O H locs la hI hS hl hL => lv_fload O.hx O.hb d (gL_at hl (i := 8) rfl (Or.inl rfl)) (kk O H locs la hI hS hl hL)
theorem g_aloadQ8 {o0 o1 o2 o3 o4 o5 o6 o7 : Option Value} {r : List (Option Value)} {y : Option Nat} (d : decode cc pc = .ok (.aload 8, 2)) (kk : V E cc own M Po Px X h k n (pc + 2) (o0 :: o1 :: o2 :: o3 :: o4 :: o5 :: o6 :: o7 :: some (va_rf y) :: r) (va_rf y :: st)) : V E cc own M Po Px X h k n pc (o0 :: o1 :: o2 :: o3 :: o4 :: o5 :: o6 :: o7 :: some (va_rf y) :: r) st := by
  cases y with
  | none => exact g_aloadN8 d kk
  | some a => exact g_aload8 d kk
theorem g_istore8 {o0 o1 o2 o3 o4 o5 o6 o7 o8 : Option Value} {r : List (Option Value)} {x : Int32} (d : decode cc pc = .ok (.istore 8, 2)) (hc : ¬ 8 = M.c2 + 1) (kk : V E cc own M Po Px X h k n (pc + 2) (o0 :: o1 :: o2 :: o3 :: o4 :: o5 :: o6 :: o7 :: some (.int x) :: r) st) : V E cc own M Po Px X h k n pc (o0 :: o1 :: o2 :: o3 :: o4 :: o5 :: o6 :: o7 :: o8 :: r) (.int x :: st) := fun O H locs la hI hS hl hL => lv_istore O.hx O.hb d hl (by have h9 := hL; simp only [List.length_cons] at h9; omega) rfl (fun la' hl' => kk O H locs la' hI hS (gL_put (i := 8) (by simp only [List.length_cons]; omega) hc hl') (by have h9 := hL; simp only [List.length_cons] at h9 ⊢; exact h9))
theorem g_astore8 {o0 o1 o2 o3 o4 o5 o6 o7 o8 : Option Value} {r : List (Option Value)} {x : Nat} (d : decode cc pc = .ok (.astore 8, 2)) (hc : ¬ 8 = M.c2 + 1) (kk : V E cc own M Po Px X h k n (pc + 2) (o0 :: o1 :: o2 :: o3 :: o4 :: o5 :: o6 :: o7 :: some (.ref x) :: r) st) : V E cc own M Po Px X h k n pc (o0 :: o1 :: o2 :: o3 :: o4 :: o5 :: o6 :: o7 :: o8 :: r) (.ref x :: st) := fun O H locs la hI hS hl hL => lv_astore O.hx O.hb d hl (by have h9 := hL; simp only [List.length_cons] at h9; omega) rfl (fun la' hl' => kk O H locs la' hI hS (gL_put (i := 8) (by simp only [List.length_cons]; omega) hc hl') (by have h9 := hL; simp only [List.length_cons] at h9 ⊢; exact h9))
theorem g_astoreN8 {o0 o1 o2 o3 o4 o5 o6 o7 o8 : Option Value} {r : List (Option Value)} (d : decode cc pc = .ok (.astore 8, 2)) (hc : ¬ 8 = M.c2 + 1) (kk : V E cc own M Po Px X h k n (pc + 2) (o0 :: o1 :: o2 :: o3 :: o4 :: o5 :: o6 :: o7 :: some (.null) :: r) st) : V E cc own M Po Px X h k n pc (o0 :: o1 :: o2 :: o3 :: o4 :: o5 :: o6 :: o7 :: o8 :: r) (.null :: st) := fun O H locs la hI hS hl hL => lv_astoreN O.hx O.hb d hl (by have h9 := hL; simp only [List.length_cons] at h9; omega) rfl (fun la' hl' => kk O H locs la' hI hS (gL_put (i := 8) (by simp only [List.length_cons]; omega) hc hl') (by have h9 := hL; simp only [List.length_cons] at h9 ⊢; exact h9))
theorem g_astoreQ8 {o0 o1 o2 o3 o4 o5 o6 o7 o8 : Option Value} {r : List (Option Value)} {y : Option Nat} (d : decode cc pc = .ok (.astore 8, 2)) (hc : ¬ 8 = M.c2 + 1) (kk : V E cc own M Po Px X h k n (pc + 2) (o0 :: o1 :: o2 :: o3 :: o4 :: o5 :: o6 :: o7 :: some (va_rf y) :: r) st) : V E cc own M Po Px X h k n pc (o0 :: o1 :: o2 :: o3 :: o4 :: o5 :: o6 :: o7 :: o8 :: r) (va_rf y :: st) := by
  cases y with
  | none => exact g_astoreN8 d hc kk
  | some a => exact g_astore8 d hc kk
theorem g_iinc8 {o0 o1 o2 o3 o4 o5 o6 o7 : Option Value} {r : List (Option Value)} {x : Int32} {z : Int} (v : Int32) (d : decode cc pc = .ok (.iinc 8 z, 3)) (hv : x + Int32.ofInt z = v) (hc : ¬ 8 = M.c2 + 1) (kk : V E cc own M Po Px X h k n (pc + 3) (o0 :: o1 :: o2 :: o3 :: o4 :: o5 :: o6 :: o7 :: some (.int v) :: r) st) : V E cc own M Po Px X h k n pc (o0 :: o1 :: o2 :: o3 :: o4 :: o5 :: o6 :: o7 :: some (.int x) :: r) st := by
  intro O H locs la hI hS hl hL
  obtain ⟨q, hq⟩ := List.getElem?_of_mem (gL_mem.mpr (⟨Nat.zero_le _, rfl, Or.inl rfl⟩ : 0 ≤ 8 ∧ (o0 :: o1 :: o2 :: o3 :: o4 :: o5 :: o6 :: o7 :: some (.int x) :: r)[8 - 0]? = some (some (.int x)) ∧ ((Value.int x).category = 1 ∨ 8 = M.c2)))
  exact lv_iinc O.hx O.hb d hl (k := q) hq hv (by have h9 := hL; simp only [List.length_cons] at h9; omega) rfl (fun la' hl' => kk O H locs la' hI hS (gL_put (i := 8) (by simp only [List.length_cons]; omega) hc hl') (by have h9 := hL; simp only [List.length_cons] at h9 ⊢; exact h9))
theorem g_iload9 {o0 o1 o2 o3 o4 o5 o6 o7 o8 : Option Value} {r : List (Option Value)} {x : Int32} (d : decode cc pc = .ok (.iload 9, 2)) (kk : V E cc own M Po Px X h k n (pc + 2) (o0 :: o1 :: o2 :: o3 :: o4 :: o5 :: o6 :: o7 :: o8 :: some (.int x) :: r) (.int x :: st)) : V E cc own M Po Px X h k n pc (o0 :: o1 :: o2 :: o3 :: o4 :: o5 :: o6 :: o7 :: o8 :: some (.int x) :: r) st := fun O H locs la hI hS hl hL => lv_iload O.hx O.hb d (gL_at hl (i := 9) rfl (Or.inl rfl)) (kk O H locs la hI hS hl hL)
theorem g_aload9 {o0 o1 o2 o3 o4 o5 o6 o7 o8 : Option Value} {r : List (Option Value)} {x : Nat} (d : decode cc pc = .ok (.aload 9, 2)) (kk : V E cc own M Po Px X h k n (pc + 2) (o0 :: o1 :: o2 :: o3 :: o4 :: o5 :: o6 :: o7 :: o8 :: some (.ref x) :: r) (.ref x :: st)) : V E cc own M Po Px X h k n pc (o0 :: o1 :: o2 :: o3 :: o4 :: o5 :: o6 :: o7 :: o8 :: some (.ref x) :: r) st := fun O H locs la hI hS hl hL => lv_aload O.hx O.hb d (gL_at hl (i := 9) rfl (Or.inl rfl)) (kk O H locs la hI hS hl hL)
theorem g_aloadN9 {o0 o1 o2 o3 o4 o5 o6 o7 o8 : Option Value} {r : List (Option Value)} (d : decode cc pc = .ok (.aload 9, 2)) (kk : V E cc own M Po Px X h k n (pc + 2) (o0 :: o1 :: o2 :: o3 :: o4 :: o5 :: o6 :: o7 :: o8 :: some (.null) :: r) (.null :: st)) : V E cc own M Po Px X h k n pc (o0 :: o1 :: o2 :: o3 :: o4 :: o5 :: o6 :: o7 :: o8 :: some (.null) :: r) st := fun O H locs la hI hS hl hL => lv_aloadN O.hx O.hb d (gL_at hl (i := 9) rfl (Or.inl rfl)) (kk O H locs la hI hS hl hL)
theorem g_fload9 {o0 o1 o2 o3 o4 o5 o6 o7 o8 : Option Value} {r : List (Option Value)} {x : UInt32} (d : decode cc pc = .ok (.fload 9, 2)) (kk : V E cc own M Po Px X h k n (pc + 2) (o0 :: o1 :: o2 :: o3 :: o4 :: o5 :: o6 :: o7 :: o8 :: some (.float x) :: r) (.float x :: st)) : V E cc own M Po Px X h k n pc (o0 :: o1 :: o2 :: o3 :: o4 :: o5 :: o6 :: o7 :: o8 :: some (.float x) :: r) st := fun O H locs la hI hS hl hL => lv_fload O.hx O.hb d (gL_at hl (i := 9) rfl (Or.inl rfl)) (kk O H locs la hI hS hl hL)
theorem g_aloadQ9 {o0 o1 o2 o3 o4 o5 o6 o7 o8 : Option Value} {r : List (Option Value)} {y : Option Nat} (d : decode cc pc = .ok (.aload 9, 2)) (kk : V E cc own M Po Px X h k n (pc + 2) (o0 :: o1 :: o2 :: o3 :: o4 :: o5 :: o6 :: o7 :: o8 :: some (va_rf y) :: r) (va_rf y :: st)) : V E cc own M Po Px X h k n pc (o0 :: o1 :: o2 :: o3 :: o4 :: o5 :: o6 :: o7 :: o8 :: some (va_rf y) :: r) st := by
  cases y with
  | none => exact g_aloadN9 d kk
  | some a => exact g_aload9 d kk
theorem g_istore9 {o0 o1 o2 o3 o4 o5 o6 o7 o8 o9 : Option Value} {r : List (Option Value)} {x : Int32} (d : decode cc pc = .ok (.istore 9, 2)) (hc : ¬ 9 = M.c2 + 1) (kk : V E cc own M Po Px X h k n (pc + 2) (o0 :: o1 :: o2 :: o3 :: o4 :: o5 :: o6 :: o7 :: o8 :: some (.int x) :: r) st) : V E cc own M Po Px X h k n pc (o0 :: o1 :: o2 :: o3 :: o4 :: o5 :: o6 :: o7 :: o8 :: o9 :: r) (.int x :: st) := fun O H locs la hI hS hl hL => lv_istore O.hx O.hb d hl (by have h9 := hL; simp only [List.length_cons] at h9; omega) rfl (fun la' hl' => kk O H locs la' hI hS (gL_put (i := 9) (by simp only [List.length_cons]; omega) hc hl') (by have h9 := hL; simp only [List.length_cons] at h9 ⊢; exact h9))
theorem g_astore9 {o0 o1 o2 o3 o4 o5 o6 o7 o8 o9 : Option Value} {r : List (Option Value)} {x : Nat} (d : decode cc pc = .ok (.astore 9, 2)) (hc : ¬ 9 = M.c2 + 1) (kk : V E cc own M Po Px X h k n (pc + 2) (o0 :: o1 :: o2 :: o3 :: o4 :: o5 :: o6 :: o7 :: o8 :: some (.ref x) :: r) st) : V E cc own M Po Px X h k n pc (o0 :: o1 :: o2 :: o3 :: o4 :: o5 :: o6 :: o7 :: o8 :: o9 :: r) (.ref x :: st) := fun O H locs la hI hS hl hL => lv_astore O.hx O.hb d hl (by have h9 := hL; simp only [List.length_cons] at h9; omega) rfl (fun la' hl' => kk O H locs la' hI hS (gL_put (i := 9) (by simp only [List.length_cons]; omega) hc hl') (by have h9 := hL; simp only [List.length_cons] at h9 ⊢; exact h9))
theorem g_astoreN9 {o0 o1 o2 o3 o4 o5 o6 o7 o8 o9 : Option Value} {r : List (Option Value)} (d : decode cc pc = .ok (.astore 9, 2)) (hc : ¬ 9 = M.c2 + 1) (kk : V E cc own M Po Px X h k n (pc + 2) (o0 :: o1 :: o2 :: o3 :: o4 :: o5 :: o6 :: o7 :: o8 :: some (.null) :: r) st) : V E cc own M Po Px X h k n pc (o0 :: o1 :: o2 :: o3 :: o4 :: o5 :: o6 :: o7 :: o8 :: o9 :: r) (.null :: st) := fun O H locs la hI hS hl hL => lv_astoreN O.hx O.hb d hl (by have h9 := hL; simp only [List.length_cons] at h9; omega) rfl (fun la' hl' => kk O H locs la' hI hS (gL_put (i := 9) (by simp only [List.length_cons]; omega) hc hl') (by have h9 := hL; simp only [List.length_cons] at h9 ⊢; exact h9))
theorem g_astoreQ9 {o0 o1 o2 o3 o4 o5 o6 o7 o8 o9 : Option Value} {r : List (Option Value)} {y : Option Nat} (d : decode cc pc = .ok (.astore 9, 2)) (hc : ¬ 9 = M.c2 + 1) (kk : V E cc own M Po Px X h k n (pc + 2) (o0 :: o1 :: o2 :: o3 :: o4 :: o5 :: o6 :: o7 :: o8 :: some (va_rf y) :: r) st) : V E cc own M Po Px X h k n pc (o0 :: o1 :: o2 :: o3 :: o4 :: o5 :: o6 :: o7 :: o8 :: o9 :: r) (va_rf y :: st) := by
  cases y with
  | none => exact g_astoreN9 d hc kk
  | some a => exact g_astore9 d hc kk
theorem g_iinc9 {o0 o1 o2 o3 o4 o5 o6 o7 o8 : Option Value} {r : List (Option Value)} {x : Int32} {z : Int} (v : Int32) (d : decode cc pc = .ok (.iinc 9 z, 3)) (hv : x + Int32.ofInt z = v) (hc : ¬ 9 = M.c2 + 1) (kk : V E cc own M Po Px X h k n (pc + 3) (o0 :: o1 :: o2 :: o3 :: o4 :: o5 :: o6 :: o7 :: o8 :: some (.int v) :: r) st) : V E cc own M Po Px X h k n pc (o0 :: o1 :: o2 :: o3 :: o4 :: o5 :: o6 :: o7 :: o8 :: some (.int x) :: r) st := by
  intro O H locs la hI hS hl hL
  obtain ⟨q, hq⟩ := List.getElem?_of_mem (gL_mem.mpr (⟨Nat.zero_le _, rfl, Or.inl rfl⟩ : 0 ≤ 9 ∧ (o0 :: o1 :: o2 :: o3 :: o4 :: o5 :: o6 :: o7 :: o8 :: some (.int x) :: r)[9 - 0]? = some (some (.int x)) ∧ ((Value.int x).category = 1 ∨ 9 = M.c2)))
  exact lv_iinc O.hx O.hb d hl (k := q) hq hv (by have h9 := hL; simp only [List.length_cons] at h9; omega) rfl (fun la' hl' => kk O H locs la' hI hS (gL_put (i := 9) (by simp only [List.length_cons]; omega) hc hl') (by have h9 := hL; simp only [List.length_cons] at h9 ⊢; exact h9))
theorem g_iload10 {o0 o1 o2 o3 o4 o5 o6 o7 o8 o9 : Option Value} {r : List (Option Value)} {x : Int32} (d : decode cc pc = .ok (.iload 10, 2)) (kk : V E cc own M Po Px X h k n (pc + 2) (o0 :: o1 :: o2 :: o3 :: o4 :: o5 :: o6 :: o7 :: o8 :: o9 :: some (.int x) :: r) (.int x :: st)) : V E cc own M Po Px X h k n pc (o0 :: o1 :: o2 :: o3 :: o4 :: o5 :: o6 :: o7 :: o8 :: o9 :: some (.int x) :: r) st := fun O H locs la hI hS hl hL => lv_iload O.hx O.hb d (gL_at hl (i := 10) rfl (Or.inl rfl)) (kk O H locs la hI hS hl hL)
theorem g_aload10 {o0 o1 o2 o3 o4 o5 o6 o7 o8 o9 : Option Value} {r : List (Option Value)} {x : Nat} (d : decode cc pc = .ok (.aload 10, 2)) (kk : V E cc own M Po Px X h k n (pc + 2) (o0 :: o1 :: o2 :: o3 :: o4 :: o5 :: o6 :: o7 :: o8 :: o9 :: some (.ref x) :: r) (.ref x :: st)) : V E cc own M Po Px X h k n pc (o0 :: o1 :: o2 :: o3 :: o4 :: o5 :: o6 :: o7 :: o8 :: o9 :: some (.ref x) :: r) st := fun O H locs la hI hS hl hL => lv_aload O.hx O.hb d (gL_at hl (i := 10) rfl (Or.inl rfl)) (kk O H locs la hI hS hl hL)
theorem g_aloadN10 {o0 o1 o2 o3 o4 o5 o6 o7 o8 o9 : Option Value} {r : List (Option Value)} (d : decode cc pc = .ok (.aload 10, 2)) (kk : V E cc own M Po Px X h k n (pc + 2) (o0 :: o1 :: o2 :: o3 :: o4 :: o5 :: o6 :: o7 :: o8 :: o9 :: some (.null) :: r) (.null :: st)) : V E cc own M Po Px X h k n pc (o0 :: o1 :: o2 :: o3 :: o4 :: o5 :: o6 :: o7 :: o8 :: o9 :: some (.null) :: r) st := fun O H locs la hI hS hl hL => lv_aloadN O.hx O.hb d (gL_at hl (i := 10) rfl (Or.inl rfl)) (kk O H locs la hI hS hl hL)
theorem g_fload10 {o0 o1 o2 o3 o4 o5 o6 o7 o8 o9 : Option Value} {r : List (Option Value)} {x : UInt32} (d : decode cc pc = .ok (.fload 10, 2)) (kk : V E cc own M Po Px X h k n (pc + 2) (o0 :: o1 :: o2 :: o3 :: o4 :: o5 :: o6 :: o7 :: o8 :: o9 :: some (.float x) :: r) (.float x :: st)) : V E cc own M Po Px X h k n pc (o0 :: o1 :: o2 :: o3 :: o4 :: o5 :: o6 :: o7 :: o8 :: o9 :: some (.float x) :: r) st := fun O H locs la hI hS hl hL => lv_fload O.hx O.hb d (gL_at hl (i := 10) rfl (Or.inl rfl)) (kk O H locs la hI hS hl hL)
theorem g_aloadQ10 {o0 o1 o2 o3 o4 o5 o6 o7 o8 o9 : Option Value} {r : List (Option Value)} {y : Option Nat} (d : decode cc pc = .ok (.aload 10, 2)) (kk : V E cc own M Po Px X h k n (pc + 2) (o0 :: o1 :: o2 :: o3 :: o4 :: o5 :: o6 :: o7 :: o8 :: o9 :: some (va_rf y) :: r) (va_rf y :: st)) : V E cc own M Po Px X h k n pc (o0 :: o1 :: o2 :: o3 :: o4 :: o5 :: o6 :: o7 :: o8 :: o9 :: some (va_rf y) :: r) st := by
  cases y with
  | none => exact g_aloadN10 d kk
  | some a => exact g_aload10 d kk
theorem g_istore10 {o0 o1 o2 o3 o4 o5 o6 o7 o8 o9 o10 : Option Value} {r : List (Option Value)} {x : Int32} (d : decode cc pc = .ok (.istore 10, 2)) (hc : ¬ 10 = M.c2 + 1) (kk : V E cc own M Po Px X h k n (pc + 2) (o0 :: o1 :: o2 :: o3 :: o4 :: o5 :: o6 :: o7 :: o8 :: o9 :: some (.int x) :: r) st) : V E cc own M Po Px X h k n pc (o0 :: o1 :: o2 :: o3 :: o4 :: o5 :: o6 :: o7 :: o8 :: o9 :: o10 :: r) (.int x :: st) := fun O H locs la hI hS hl hL => lv_istore O.hx O.hb d hl (by have h9 := hL; simp only [List.length_cons] at h9; omega) rfl (fun la' hl' => kk O H locs la' hI hS (gL_put (i := 10) (by simp only [List.length_cons]; omega) hc hl') (by have h9 := hL; simp only [List.length_cons] at h9 ⊢; exact h9))
theorem g_astore10 {o0 o1 o2 o3 o4 o5 o6 o7 o8 o9 o10 : Option Value} {r : List (Option Value)} {x : Nat} (d : decode cc pc = .ok (.astore 10, 2)) (hc : ¬ 10 = M.c2 + 1) (kk : V E cc own M Po Px X h k n (pc + 2) (o0 :: o1 :: o2 :: o3 :: o4 :: o5 :: o6 :: o7 :: o8 :: o9 :: some (.ref x) :: r) st) : V E cc own M Po Px X h k n pc (o0 :: o1 :: o2 :: o3 :: o4 :: o5 :: o6 :: o7 :: o8 :: o9 :: o10 :: r) (.ref x :: st) := fun O H locs la hI hS hl hL => lv_astore O.hx O.hb d hl (by have h9 := hL; simp only [List.length_cons] at h9; omega) rfl (fun la' hl' => kk O H locs la' hI hS (gL_put (i := 10) (by simp only [List.length_cons]; omega) hc hl') (by have h9 := hL; simp only [List.length_cons] at h9 ⊢; exact h9))
theorem g_astoreN10 {o0 o1 o2 o3 o4 o5 o6 o7 o8 o9 o10 : Option Value} {r : List (Option Value)} (d : decode cc pc = .ok (.astore 10, 2)) (hc : ¬ 10 = M.c2 + 1) (kk : V E cc own M Po Px X h k n (pc + 2) (o0 :: o1 :: o2 :: o3 :: o4 :: o5 :: o6 :: o7 :: o8 :: o9 :: some (.null) :: r) st) : V E cc own M Po Px X h k n pc (o0 :: o1 :: o2 :: o3 :: o4 :: o5 :: o6 :: o7 :: o8 :: o9 :: o10 :: r) (.null :: st) := fun O H locs la hI hS hl hL => lv_astoreN O.hx O.hb d hl (by have h9 := hL; simp only [List.length_cons] at h9; omega) rfl (fun la' hl' => kk O H locs la' hI hS (gL_put (i := 10) (by simp only [List.length_cons]; omega) hc hl') (by have h9 := hL; simp only [List.length_cons] at h9 ⊢; exact h9))
theorem g_astoreQ10 {o0 o1 o2 o3 o4 o5 o6 o7 o8 o9 o10 : Option Value} {r : List (Option Value)} {y : Option Nat} (d : decode cc pc = .ok (.astore 10, 2)) (hc : ¬ 10 = M.c2 + 1) (kk : V E cc own M Po Px X h k n (pc + 2) (o0 :: o1 :: o2 :: o3 :: o4 :: o5 :: o6 :: o7 :: o8 :: o9 :: some (va_rf y) :: r) st) : V E cc own M Po Px X h k n pc (o0 :: o1 :: o2 :: o3 :: o4 :: o5 :: o6 :: o7 :: o8 :: o9 :: o10 :: r) (va_rf y :: st) := by
  cases y with
  | none => exact g_astoreN10 d hc kk
  | some a => exact g_astore10 d hc kk
theorem g_iinc10 {o0 o1 o2 o3 o4 o5 o6 o7 o8 o9 : Option Value} {r : List (Option Value)} {x : Int32} {z : Int} (v : Int32) (d : decode cc pc = .ok (.iinc 10 z, 3)) (hv : x + Int32.ofInt z = v) (hc : ¬ 10 = M.c2 + 1) (kk : V E cc own M Po Px X h k n (pc + 3) (o0 :: o1 :: o2 :: o3 :: o4 :: o5 :: o6 :: o7 :: o8 :: o9 :: some (.int v) :: r) st) : V E cc own M Po Px X h k n pc (o0 :: o1 :: o2 :: o3 :: o4 :: o5 :: o6 :: o7 :: o8 :: o9 :: some (.int x) :: r) st := by
  intro O H locs la hI hS hl hL
  obtain ⟨q, hq⟩ := List.getElem?_of_mem (gL_mem.mpr (⟨Nat.zero_le _, rfl, Or.inl rfl⟩ : 0 ≤ 10 ∧ (o0 :: o1 :: o2 :: o3 :: o4 :: o5 :: o6 :: o7 :: o8 :: o9 :: some (.int x) :: r)[10 - 0]? = some (some (.int x)) ∧ ((Value.int x).category = 1 ∨ 10 = M.c2)))
  exact lv_iinc O.hx O.hb d hl (k := q) hq hv (by have h9 := hL; simp only [List.length_cons] at h9; omega) rfl (fun la' hl' => kk O H locs la' hI hS (gL_put (i := 10) (by simp only [List.length_cons]; omega) hc hl') (by have h9 := hL; simp only [List.length_cons] at h9 ⊢; exact h9))
theorem g_iload11 {o0 o1 o2 o3 o4 o5 o6 o7 o8 o9 o10 : Option Value} {r : List (Option Value)} {x : Int32} (d : decode cc pc = .ok (.iload 11, 2)) (kk : V E cc own M Po Px X h k n (pc + 2) (o0 :: o1 :: o2 :: o3 :: o4 :: o5 :: o6 :: o7 :: o8 :: o9 :: o10 :: some (.int x) :: r) (.int x :: st)) : V E cc own M Po Px X h k n pc (o0 :: o1 :: o2 :: o3 :: o4 :: o5 :: o6 :: o7 :: o8 :: o9 :: o10 :: some (.int x) :: r) st := fun O H locs la hI hS hl hL => lv_iload O.hx O.hb d (gL_at hl (i := 11) rfl (Or.inl rfl)) (kk O H locs la hI hS hl hL)
theorem g_aload11 {o0 o1 o2 o3 o4 o5 o6 o7 o8 o9 o10 : Option Value} {r : List (Option Value)} {x : Nat} (d : decode cc pc = .ok (.aload 11, 2)) (kk : V E cc own M Po Px X h k n (pc + 2) (o0 :: o1 :: o2 :: o3 :: o4 :: o5 :: o6 :: o7 :: o8 :: o9 :: o10 :: some (.ref x) :: r) (.ref x :: st)) : V E cc own M Po Px X h k n pc (o0 :: o1 :: o2 :: o3 :: o4 :: o5 :: o6 :: o7 :: o8 :: o9 :: o10 :: some (.ref x) :: r) st := fun O H locs la hI hS hl hL => lv_aload O.hx O.hb d (gL_at hl (i := 11) rfl (Or.inl rfl)) (kk O H locs la hI hS hl hL)
theorem g_aloadN11 {o0 o1 o2 o3 o4 o5 o6 o7 o8 o9 o10 : Option Value} {r : List (Option Value)} (d : decode cc pc = .ok (.aload 11, 2)) (kk : V E cc own M Po Px X h k n (pc + 2) (o0 :: o1 :: o2 :: o3 :: o4 :: o5 :: o6 :: o7 :: o8 :: o9 :: o10 :: some (.null) :: r) (.null :: st)) : V E cc own M Po Px X h k n pc (o0 :: o1 :: o2 :: o3 :: o4 :: o5 :: o6 :: o7 :: o8 :: o9 :: o10 :: some (.null) :: r) st := fun O H locs la hI hS hl hL => lv_aloadN O.hx O.hb d (gL_at hl (i := 11) rfl (Or.inl rfl)) (kk O H locs la hI hS hl hL)
theorem g_fload11 {o0 o1 o2 o3 o4 o5 o6 o7 o8 o9 o10 : Option Value} {r : List (Option Value)} {x : UInt32} (d : decode cc pc = .ok (.fload 11, 2)) (kk : V E cc own M Po Px X h k n (pc + 2) (o0 :: o1 :: o2 :: o3 :: o4 :: o5 :: o6 :: o7 :: o8 :: o9 :: o10 :: some (.float x) :: r) (.float x :: st)) : V E cc own M Po Px X h k n pc (o0 :: o1 :: o2 :: o3 :: o4 :: o5 :: o6 :: o7 :: o8 :: o9 :: o10 :: some (.float x) :: r) st := fun O H locs la hI hS hl hL => lv_fload O.hx O.hb d (gL_at hl (i := 11) rfl (Or.inl rfl)) (kk O H locs la hI hS hl hL)
theorem g_aloadQ11 {o0 o1 o2 o3 o4 o5 o6 o7 o8 o9 o10 : Option Value} {r : List (Option Value)} {y : Option Nat} (d : decode cc pc = .ok (.aload 11, 2)) (kk : V E cc own M Po Px X h k n (pc + 2) (o0 :: o1 :: o2 :: o3 :: o4 :: o5 :: o6 :: o7 :: o8 :: o9 :: o10 :: some (va_rf y) :: r) (va_rf y :: st)) : V E cc own M Po Px X h k n pc (o0 :: o1 :: o2 :: o3 :: o4 :: o5 :: o6 :: o7 :: o8 :: o9 :: o10 :: some (va_rf y) :: r) st := by
  cases y with
  | none => exact g_aloadN11 d kk
  | some a => exact g_aload11 d kk
theorem g_istore11 {o0 o1 o2 o3 o4 o5 o6 o7 o8 o9 o10 o11 : Option Value} {r : List (Option Value)} {x : Int32} (d : decode cc pc = .ok (.istore 11, 2)) (hc : ¬ 11 = M.c2 + 1) (kk : V E cc own M Po Px X h k n (pc + 2) (o0 :: o1 :: o2 :: o3 :: o4 :: o5 :: o6 :: o7 :: o8 :: o9 :: o10 :: some (.int x) :: r) st) : V E cc own M Po Px X h k n pc (o0 :: o1 :: o2 :: o3 :: o4 :: o5 :: o6 :: o7 :: o8 :: o9 :: o10 :: o11 :: r) (.int x :: st) := fun O H locs la hI hS hl hL => lv_istore O.hx O.hb d hl (by have h9 := hL; simp only [List.length_cons] at h9; omega) rfl (fun la' hl' => kk O H locs la' hI hS (gL_put (i := 11) (by simp only [List.length_cons]; omega) hc hl') (by have h9 := hL; simp only [List.length_cons] at h9 ⊢; exact h9))
theorem g_astore11 {o0 o1 o2 o3 o4 o5 o6 o7 o8 o9 o10 o11 : Option Value} {r : List (Option Value)} {x : Nat} (d : decode cc pc = .ok (.astore 11, 2)) (hc : ¬ 11 = M.c2 + 1) (kk : V E cc own M Po Px X h k n (pc + 2) (o0 :: o1 :: o2 :: o3 :: o4 :: o5 :: o6 :: o7 :: o8 :: o9 :: o10 :: some (.ref x) :: r) st) : V E cc own M Po Px X h k n pc (o0 :: o1 :: o2 :: o3 :: o4 :: o5 :: o6 :: o7 :: o8 :: o9 :: o10 :: o11 :: r) (.ref x :: st) := fun O H locs la hI hS hl hL => lv_astore O.hx O.hb d hl (by have h9 := hL; simp only [List.length_cons] at h9; omega) rfl (fun la' hl' => kk O H locs la' hI hS (gL_put (i := 11) (by simp only [List.length_cons]; omega) hc hl') (by have h9 := hL; simp only [List.length_cons] at h9 ⊢; exact h9))
theorem g_astoreN11 {o0 o1 o2 o3 o4 o5 o6 o7 o8 o9 o10 o11 : Option Value} {r : List (Option Value)} (d : decode cc pc = .ok (.astore 11, 2)) (hc : ¬ 11 = M.c2 + 1) (kk : V E cc own M Po Px X h k n (pc + 2) (o0 :: o1 :: o2 :: o3 :: o4 :: o5 :: o6 :: o7 :: o8 :: o9 :: o10 :: some (.null) :: r) st) : V E cc own M Po Px X h k n pc (o0 :: o1 :: o2 :: o3 :: o4 :: o5 :: o6 :: o7 :: o8 :: o9 :: o10 :: o11 :: r) (.null :: st) := fun O H locs la hI hS hl hL => lv_astoreN O.hx O.hb d hl (by have h9 := hL; simp only [List.length_cons] at h9; omega) rfl (fun la' hl' => kk O H locs la' hI hS (gL_put (i := 11) (by simp only [List.length_cons]; omega) hc hl') (by have h9 := hL; simp only [List.length_cons] at h9 ⊢; exact h9))
theorem g_astoreQ11 {o0 o1 o2 o3 o4 o5 o6 o7 o8 o9 o10 o11 : Option Value} {r : List (Option Value)} {y : Option Nat} (d : decode cc pc = .ok (.astore 11, 2)) (hc : ¬ 11 = M.c2 + 1) (kk : V E cc own M Po Px X h k n (pc + 2) (o0 :: o1 :: o2 :: o3 :: o4 :: o5 :: o6 :: o7 :: o8 :: o9 :: o10 :: some (va_rf y) :: r) st) : V E cc own M Po Px X h k n pc (o0 :: o1 :: o2 :: o3 :: o4 :: o5 :: o6 :: o7 :: o8 :: o9 :: o10 :: o11 :: r) (va_rf y :: st) := by
  cases y with
  | none => exact g_astoreN11 d hc kk
  | some a => exact g_astore11 d hc kk
theorem g_iinc11 {o0 o1 o2 o3 o4 o5 o6 o7 o8 o9 o10 : Option Value} {r : List (Option Value)} {x : Int32} {z : Int} (v : Int32) (d : decode cc pc = .ok (.iinc 11 z, 3)) (hv : x + Int32.ofInt z = v) (hc : ¬ 11 = M.c2 + 1) (kk : V E cc own M Po Px X h k n (pc + 3) (o0 :: o1 :: o2 :: o3 :: o4 :: o5 :: o6 :: o7 :: o8 :: o9 :: o10 :: some (.int v) :: r) st) : V E cc own M Po Px X h k n pc (o0 :: o1 :: o2 :: o3 :: o4 :: o5 :: o6 :: o7 :: o8 :: o9 :: o10 :: some (.int x) :: r) st := by
  intro O H locs la hI hS hl hL
  obtain ⟨q, hq⟩ := List.getElem?_of_mem (gL_mem.mpr (⟨Nat.zero_le _, rfl, Or.inl rfl⟩ : 0 ≤ 11 ∧ (o0 :: o1 :: o2 :: o3 :: o4 :: o5 :: o6 :: o7 :: o8 :: o9 :: o10 :: some (.int x) :: r)[11 - 0]? = some (some (.int x)) ∧ ((Value.int x).category = 1 ∨ 11 = M.c2)))
  exact lv_iinc O.hx O.hb d hl (k := q) hq hv (by have h9 := hL; simp only [List.length_cons] at h9; omega) rfl (fun la' hl' => kk O H locs la' hI hS (gL_put (i := 11) (by simp only [List.length_cons]; omega) hc hl') (by have h9 := hL; simp only [List.length_cons] at h9 ⊢; exact h9))
theorem g_iload12 {o0 o1 o2 o3 o4 o5 o6 o7 o8 o9 o10 o11 : Option Value} {r : List (Option Value)} {x : Int32} (d : decode cc pc = .ok (.iload 12, 2)) (kk : V E cc own M Po Px X h k n (pc + 2) (o0 :: o1 :: o2 :: o3 :: o4 :: o5 :: o6 :: o7 :: o8 :: o9 :: o10 :: o11 :: some (.int x) :: r) (.int x :: st)) : V E cc own M Po Px X h k n pc (o0 :: o1 :: o2 :: o3 :: o4 :: o5 :: o6 :: o7 :: o8 :: o9 :: o10 :: o11 :: some (.int x) :: r) st := fun O H locs la hI hS hl hL => lv_iload O.hx O.hb d (gL_at hl (i := 12) rfl (Or.inl rfl)) (kk O H locs la hI hS hl hL)
theorem g_aload12 {o0 o1 o2 o3 o4 o5 o6 o7 o8 o9 o10 o11 : Option Value} {r : List (Option Value)} {x : Nat} (d : decode cc pc = .ok (.aload 12, 2)) (kk : V E cc own M Po Px X h k n (pc + 2) (o0 :: o1 :: o2 :: o3 :: o4 :: o5 :: o6 :: o7 :: o8 :: o9 :: o10 :: o11 :: some (.ref x) :: r) (.ref x :: st)) : V E cc own M Po Px X h k n pc (o0 :: o1 :: o2 :: o3 :: o4 :: o5 :: o6 :: o7 :: o8 :: o9 :: o10 :: o11 :: some (.ref x) :: r) st := fun O H locs la hI hS hl hL => lv_aload O.hx O.hb d (gL_at hl (i := 12) rfl (Or.inl rfl)) (kk O H locs la hI hS hl hL)
theorem g_aloadN12 {o0 o1 o2 o3 o4 o5 o6 o7 o8 o9 o10 o11 : Option Value} {r : List (Option Value)} (d : decode cc pc = .ok (.aload 12, 2)) (kk : V E cc own M Po Px X h k n (pc + 2) (o0 :: o1 :: o2 :: o3 :: o4 :: o5 :: o6 :: o7 :: o8 :: o9 :: o10 :: o11 :: some (.null) :: r) (.null :: st)) : V E cc own M Po Px X h k n pc (o0 :: o1 :: o2 :: o3 :: o4 :: o5 :: o6 :: o7 :: o8 :: o9 :: o10 :: o11 :: some (.null) :: r) st := fun O H locs la hI hS hl hL => lv_aloadN O.hx O.hb d (gL_at hl (i := 12) rfl (Or.inl rfl)) (kk O H locs la hI hS hl hL)
theorem g_fload12 {o0 o1 o2 o3 o4 o5 o6 o7 o8 o9 o10 o11 : Option Value} {r : List (Option Value)} {x : UInt32} (d : decode cc pc = .ok (.fload 12, 2)) (kk : V E cc own M Po Px X h k n (pc + 2) (o0 :: o1 :: o2 :: o3 :: o4 :: o5 :: o6 :: o7 :: o8 :: o9 :: o10 :: o11 :: some (.float x) :: r) (.float x :: st)) : V E cc own M Po Px X h k n pc (o0 :: o1 :: o2 :: o3 :: o4 :: o5 :: o6 :: o7 :: o8 :: o9 :: o10 :: o11 :: some (.float x) :: r) st := fun O H locs la hI hS hl hL => lv_fload O.hx O.hb d (gL_at hl (i := 12) rfl (Or.inl rfl)) (kk O H locs la hI hS hl hL)
theorem g_aloadQ12 {o0 o1 o2 o3 o4 o5 o6 o7 o8 o9 o10 o11 : Option Value} {r : List (Option Value)} {y : Option Nat} (d : decode cc pc = .ok (.aload 12, 2)) (kk : V E cc own M Po Px X h k n (pc + 2) (o0 :: o1 :: o2 :: o3 :: o4 :: o5 :: o6 :: o7 :: o8 :: o9 :: o10 :: o11 :: some (va_rf y) :: r) (va_rf y :: st)) : V E cc own M Po Px X h k n pc (o0 :: o1 :: o2 :: o3 :: o4 :: o5 :: o6 :: o7 :: o8 :: o9 :: o10 :: o11 :: some (va_rf y) :: r) st := by
  cases y with
  | none => exact g_aloadN12 d kk
  | some a => exact g_aload12 d kk
theorem g_istore12 {o0 o1 o2 o3 o4 o5 o6 o7 o8 o9 o10 o11 o12 : Option Value} {r : List (Option Value)} {x : Int32} (d : decode cc pc = .ok (.istore 12, 2)) (hc : ¬ 12 = M.c2 + 1) (kk : V E cc own M Po Px X h k n (pc + 2) (o0 :: o1 :: o2 :: o3 :: o4 :: o5 :: o6 :: o7 :: o8 :: o9 :: o10 :: o11 :: some (.int x) :: r) st) : V E cc own M Po Px X h k n pc (o0 :: o1 :: o2 :: o3 :: o4 :: o5 :: o6 :: o7 :: o8 :: o9 :: o10 :: o11 :: o12 :: r) (.int x :: st) := fun O H locs la hI hS hl hL => lv_istore O.hx O.hb d hl (by have h9 := hL; simp only [List.length_cons] at h9; omega) rfl (fun la' hl' => kk O H locs la' hI hS (gL_put (i := 12) (by simp only [List.length_cons]; omega) hc hl') (by have h9 := hL; simp only [List.length_cons] at h9 ⊢; exact h9))
theorem g_astore12 {o0 o1 o2 o3 o4 o5 o6 o7 o8 o9 o10 o11 o12 : Option Value} {r : List (Option Value)} {x : Nat} (d : decode cc pc = .ok (.astore 12, 2)) (hc : ¬ 12 = M.c2 + 1) (kk : V E cc own M Po Px X h k n (pc + 2) (o0 :: o1 :: o2 :: o3 :: o4 :: o5 :: o6 :: o7 :: o8 :: o9 :: o10 :: o11 :: some (.ref x) :: r) st) : V E cc own M Po Px X h k n pc (o0 :: o1 :: o2 :: o3 :: o4 :: o5 :: o6 :: o7 :: o8 :: o9 :: o10 :: o11 :: o12 :: r) (.ref x :: st) := fun O H locs la hI hS hl hL => lv_astore O.hx O.hb d hl (by have h9 := hL; simp only [List.length_cons] at h9; omega) rfl (fun la' hl' => kk O H locs la' hI hS (gL_put (i := 12) (by simp only [List.length_cons]; omega) hc hl') (by have h9 := hL; simp only [List.length_cons] at h9 ⊢; exact h9))
theorem g_astoreN12 {o0 o1 o2 o3 o4 o5 o6 o7 o8 o9 o10 o11 o12 : Option Value} {r : List (Option Value)} (d : decode cc pc = .ok (.astore 12, 2)) (hc : ¬ 12 = M.c2 + 1) (kk : V E cc own M Po Px X h k n (pc + 2) (o0 :: o1 :: o2 :: o3 :: o4 :: o5 :: o6 :: o7 :: o8 :: o9 :: o10 :: o11 :: some (.null) :: r) st) : V E cc own M Po Px X h k n pc (o0 :: o1 :: o2 :: o3 :: o4 :: o5 :: o6 :: o7 :: o8 :: o9 :: o10 :: o11 :: o12 :: r) (.null :: st) := fun O H locs la hI hS hl hL => lv_astoreN O.hx O.hb d hl (by have h9 := hL; simp only [List.length_cons] at h9; omega) rfl (fun la' hl' => kk O H locs la' hI hS (gL_put (i := 12) (by simp only [List.length_cons]; omega) hc hl') (by have h9 := hL; simp only [List.length_cons] at h9 ⊢; exact h9))
theorem g_astoreQ12 {o0 o1 o2 o3 o4 o5 o6 o7 o8 o9 o10 o11 o12 : Option Value} {r : List (Option Value)} {y : Option Nat} (d : decode cc pc = .ok (.astore 12, 2)) (hc : ¬ 12 = M.c2 + 1) (kk : V E cc own M Po Px X h k n (pc + 2) (o0 :: o1 :: o2 :: o3 :: o4 :: o5 :: o6 :: o7 :: o8 :: o9 :: o10 :: o11 :: some (va_rf y) :: r) st) : V E cc own M Po Px X h k n pc (o0 :: o1 :: o2 :: o3 :: o4 :: o5 :: o6 :: o7 :: o8 :: o9 :: o10 :: o11 :: o12 :: r) (va_rf y :: st) := by
  cases y with
  | none => exact g_astoreN12 d hc kk
  | some a => exact g_astore12 d hc kk
theorem g_iinc12 {o0 o1 o2 o3 o4 o5 o6 o7 o8 o9 o10 o11 : Option Value} {r : List (Option Value)} {x : Int32} {z : Int} (v : Int32) (d : decode cc pc = .ok (.iinc 12 z, 3)) (hv : x + Int32.ofInt z = v) (hc : ¬ 12 = M.c2 + 1) (kk : V E cc own M Po Px X h k n (pc + 3) (o0 :: o1 :: o2 :: o3 :: o4 :: o5 :: o6 :: o7 :: o8 :: o9 :: o10 :: o11 :: some (.int v) :: r) st) : V E cc own M Po Px X h k n pc (o0 :: o1 :: o2 :: o3 :: o4 :: o5 :: o6 :: o7 :: o8 :: o9 :: o10 :: o11 :: some (.int x) :: r) st := by
  intro O H locs la hI hS hl hL
  obtain ⟨q, hq⟩ := List.getElem?_of_mem (gL_mem.mpr (⟨Nat.zero_le _, rfl, Or.inl rfl⟩ : 0 ≤ 12 ∧ (o0 :: o1 :: o2 :: o3 :: o4 :: o5 :: o6 :: o7 :: o8 :: o9 :: o10 :: o11 :: some (.int x) :: r)[12 - 0]? = some (some (.int x)) ∧ ((Value.int x).category = 1 ∨ 12 = M.c2)))
  exact lv_iinc O.hx O.hb d hl (k := q) hq hv (by have h9 := hL; simp only [List.length_cons] at h9; omega) rfl (fun la' hl' => kk O H locs la' hI hS (gL_put (i := 12) (by simp only [List.length_cons]; omega) hc hl') (by have h9 := hL; simp only [List.length_cons] at h9 ⊢; exact h9))
theorem g_lloadw0 {r : List (Option Value)} {x : Int64} (d : decode cc pc = .ok (.lload 0, 2)) (hc : 0 = M.c2) (kk : V E cc own M Po Px X h k n (pc + 2) (some (.long x) :: r) (.long x :: st)) : V E cc own M Po Px X h k n pc (some (.long x) :: r) st := fun O H locs la hI hS hl hL => lv_lload O.hx O.hb d (gL_at hl (i := 0) rfl (Or.inr hc)) (kk O H locs la hI hS hl hL)
theorem g_lload0 {r : List (Option Value)} {x : Int64} (d : decode cc pc = .ok (.lload_n 0, 1)) (hc : 0 = M.c2) (kk : V E cc own M Po Px X h k n (pc + 1) (some (.long x) :: r) (.long x :: st)) : V E cc own M Po Px X h k n pc (some (.long x) :: r) st := fun O H locs la hI hS hl hL => lv_lload_n O.hx O.hb d rfl (gL_at hl (i := 0) rfl (Or.inr hc)) (kk O H locs la hI hS hl hL)
theorem g_dloadw0 {r : List (Option Value)} {x : UInt64} (d : decode cc pc = .ok (.dload 0, 2)) (hc : 0 = M.c2) (kk : V E cc own M Po Px X h k n (pc + 2) (some (.double x) :: r) (.double x :: st)) : V E cc own M Po Px X h k n pc (some (.double x) :: r) st := fun O H locs la hI hS hl hL => lv_dload O.hx O.hb d (gL_at hl (i := 0) rfl (Or.inr hc)) (kk O H locs la hI hS hl hL)
theorem g_dload0 {r : List (Option Value)} {x : UInt64} (d : decode cc pc = .ok (.dload_n 0, 1)) (hc : 0 = M.c2) (kk : V E cc own M Po Px X h k n (pc + 1) (some (.double x) :: r) (.double x :: st)) : V E cc own M Po Px X h k n pc (some (.double x) :: r) st := fun O H locs la hI hS hl hL => lv_dload_n O.hx O.hb d rfl (gL_at hl (i := 0) rfl (Or.inr hc)) (kk O H locs la hI hS hl hL)
theorem g_lloadw1 {o0 : Option Value} {r : List (Option Value)} {x : Int64} (d : decode cc pc = .ok (.lload 1, 2)) (hc : 1 = M.c2) (kk : V E cc own M Po Px X h k n (pc + 2) (o0 :: some (.long x) :: r) (.long x :: st)) : V E cc own M Po Px X h k n pc (o0 :: some (.long x) :: r) st := fun O H locs la hI hS hl hL => lv_lload O.hx O.hb d (gL_at hl (i := 1) rfl (Or.inr hc)) (kk O H locs la hI hS hl hL)
theorem g_lload1 {o0 : Option Value} {r : List (Option Value)} {x : Int64} (d : decode cc pc = .ok (.lload_n 1, 1)) (hc : 1 = M.c2) (kk : V E cc own M Po Px X h k n (pc + 1) (o0 :: some (.long x) :: r) (.long x :: st)) : V E cc own M Po Px X h k n pc (o0 :: some (.long x) :: r) st := fun O H locs la hI hS hl hL => lv_lload_n O.hx O.hb d rfl (gL_at hl (i := 1) rfl (Or.inr hc)) (kk O H locs la hI hS hl hL)
theorem g_dloadw1 {o0 : Option Value} {r : List (Option Value)} {x : UInt64} (d : decode cc pc = .ok (.dload 1, 2)) (hc : 1 = M.c2) (kk : V E cc own M Po Px X h k n (pc + 2) (o0 :: some (.double x) :: r) (.double x :: st)) : V E cc own M Po Px X h k n pc (o0 :: some (.double x) :: r) st := fun O H locs la hI hS hl hL => lv_dload O.hx O.hb d (gL_at hl (i := 1) rfl (Or.inr hc)) (kk O H locs la hI hS hl hL)
theorem g_dload1 {o0 : Option Value} {r : List (Option Value)} {x : UInt64} (d : decode cc pc = .ok (.dload_n 1, 1)) (hc : 1 = M.c2) (kk : V E cc own M Po Px X h k n (pc + 1) (o0 :: some (.double x) :: r) (.double x :: st)) : V E cc own M Po Px X h k n pc (o0 :: some (.double x) :: r) st := fun O H locs la hI hS hl hL => lv_dload_n O.hx O.hb d rfl (gL_at hl (i := 1) rfl (Or.inr hc)) (kk O H locs la hI hS hl hL)
theorem g_lloadw2 {o0 o1 : Option Value} {r : List (Option Value)} {x : Int64} (d : decode cc pc = .ok (.lload 2, 2)) (hc : 2 = M.c2) (kk : V E cc own M Po Px X h k n (pc + 2) (o0 :: o1 :: some (.long x) :: r) (.long x :: st)) : V E cc own M Po Px X h k n pc (o0 :: o1 :: some (.long x) :: r) st := fun O H locs la hI hS hl hL => lv_lload O.hx O.hb d (gL_at hl (i := 2) rfl (Or.inr hc)) (kk O H locs la hI hS hl hL)
theorem g_lload2 {o0 o1 : Option Value} {r : List (Option Value)} {x : Int64} (d : decode cc pc = .ok (.lload_n 2, 1)) (hc : 2 = M.c2) (kk : V E cc own M Po Px X h k n (pc + 1) (o0 :: o1 :: some (.long x) :: r) (.long x :: st)) : V E cc own M Po Px X h k n pc (o0 :: o1 :: some (.long x) :: r) st := fun O H locs la hI hS hl hL => lv_lload_n O.hx O.hb d rfl (gL_at hl (i := 2) rfl (Or.inr hc)) (kk O H locs la hI hS hl hL)
theorem g_dloadw2 {o0 o1 : Option Value} {r : List (Option Value)} {x : UInt64} (d : decode cc pc = .ok (.dload 2, 2)) (hc : 2 = M.c2) (kk : V E cc own M Po Px X h k n (pc + 2) (o0 :: o1 :: some (.double x) :: r) (.double x :: st)) : V E cc own M Po Px X h k n pc (o0 :: o1 :: some (.double x) :: r) st := fun O H locs la hI hS hl hL => lv_dload O.hx O.hb d (gL_at hl (i := 2) rfl (Or.inr hc)) (kk O H locs la hI hS hl hL)
theorem g_dload2 {o0 o1 : Option Value} {r : List (Option Value)} {x : UInt64} (d : decode cc pc = .ok (.dload_n 2, 1)) (hc : 2 = M.c2) (kk : V E cc own M Po Px X h k n (pc + 1) (o0 :: o1 :: some (.double x) :: r) (.double x :: st)) : V E cc own M Po Px X h k n pc (o0 :: o1 :: some (.double x) :: r) st := fun O H locs la hI hS hl hL => lv_dload_n O.hx O.hb d rfl (gL_at hl (i := 2) rfl (Or.inr hc)) (kk O H locs la hI hS hl hL)
theorem g_lloadw3 {o0 o1 o2 : Option Value} {r : List (Option Value)} {x : Int64} (d : decode cc pc = .ok (.lload 3, 2)) (hc : 3 = M.c2) (kk : V E cc own M Po Px X h k n (pc + 2) (o0 :: o1 :: o2 :: some (.long x) :: r) (.long x :: st)) : V E cc own M Po Px X h k n pc (o0 :: o1 :: o2 :: some (.long x) :: r) st := fun O H locs la hI hS hl hL => lv_lload O.hx O.hb d (gL_at hl (i := 3) rfl (Or.inr hc)) (kk O H locs la hI hS hl hL)
theorem g_lload3 {o0 o1 o2 : Option Value} {r : List (Option Value)} {x : Int64} (d : decode cc pc = .ok (.lload_n 3, 1)) (hc : 3 = M.c2) (kk : V E cc own M Po Px X h k n (pc + 1) (o0 :: o1 :: o2 :: some (.long x) :: r) (.long x :: st)) : V E cc own M Po Px X h k n pc (o0 :: o1 :: o2 :: some (.long x) :: r) st := fun O H locs la hI hS hl hL => lv_lload_n O.hx O.hb d rfl (gL_at hl (i := 3) rfl (Or.inr hc)) (kk O H locs la hI hS hl hL)
theorem g_dloadw3 {o0 o1 o2 : Option Value} {r : List (Option Value)} {x : UInt64} (d : decode cc pc = .ok (.dload 3, 2)) (hc : 3 = M.c2) (kk : V E cc own M Po Px X h k n (pc + 2) (o0 :: o1 :: o2 :: some (.double x) :: r) (.double x :: st)) : V E cc own M Po Px X h k n pc (o0 :: o1 :: o2 :: some (.double x) :: r) st := fun O H locs la hI hS hl hL => lv_dload O.hx O.hb d (gL_at hl (i := 3) rfl (Or.inr hc)) (kk O H locs la hI hS hl hL)
theorem g_dload3 {o0 o1 o2 : Option Value} {r : List (Option Value)} {x : UInt64} (d : decode cc pc = .ok (.dload_n 3, 1)) (hc : 3 = M.c2) (kk : V E cc own M Po Px X h k n (pc + 1) (o0 :: o1 :: o2 :: some (.double x) :: r) (.double x :: st)) : V E cc own M Po Px X h k n pc (o0 :: o1 :: o2 :: some (.double x) :: r) st := fun O H locs la hI hS hl hL => lv_dload_n O.hx O.hb d rfl (gL_at hl (i := 3) rfl (Or.inr hc)) (kk O H locs la hI hS hl hL)
theorem g_lload4 {o0 o1 o2 o3 : Option Value} {r : List (Option Value)} {x : Int64} (d : decode cc pc = .ok (.lload 4, 2)) (hc : 4 = M.c2) (kk : V E cc own M Po Px X h k n (pc + 2) (o0 :: o1 :: o2 :: o3 :: some (.long x) :: r) (.long x :: st)) : V E cc own M Po Px X h k n pc (o0 :: o1 :: o2 :: o3 :: some (.long x) :: r) st := fun O H locs la hI hS hl hL => lv_lload O.hx O.hb d (gL_at hl (i := 4) rfl (Or.inr hc)) (kk O H locs la hI hS hl hL)
theorem g_dload4 {o0 o1 o2 o3 : Option Value} {r : List (Option Value)} {x : UInt64} (d : decode cc pc = .ok (.dload 4, 2)) (hc : 4 = M.c2) (kk : V E cc own M Po Px X h k n (pc + 2) (o0 :: o1 :: o2 :: o3 :: some (.double x) :: r) (.double x :: st)) : V E cc own M Po Px X h k n pc (o0 :: o1 :: o2 :: o3 :: some (.double x) :: r) st := fun O H locs la hI hS hl hL => lv_dload O.hx O.hb d (gL_at hl (i := 4) rfl (Or.inr hc)) (kk O H locs la hI hS hl hL)
theorem g_lload5 {o0 o1 o2 o3 o4 : Option Value} {r : List (Option Value)} {x : Int64} (d : decode cc pc = .ok (.lload 5, 2)) (hc : 5 = M.c2) (kk : V E cc own M Po Px X h k n (pc + 2) (o0 :: o1 :: o2 :: o3 :: o4 :: some (.long x) :: r) (.long x :: st)) : V E cc own M Po Px X h k n pc (o0 :: o1 :: o2 :: o3 :: o4 :: some (.long x) :: r) st := fun O H locs la hI hS hl hL => lv_lload O.hx O.hb d (gL_at hl (i := 5) rfl (Or.inr hc)) (kk O H locs la hI hS hl hL)
theorem g_dload5 {o0 o1 o2 o3 o4 : Option Value} {r : List (Option Value)} {x : UInt64} (d : decode cc pc = .ok (.dload 5, 2)) (hc : 5 = M.c2) (kk : V E cc own M Po Px X h k n (pc + 2) (o0 :: o1 :: o2 :: o3 :: o4 :: some (.double x) :: r) (.double x :: st)) : V E cc own M Po Px X h k n pc (o0 :: o1 :: o2 :: o3 :: o4 :: some (.double x) :: r) st := fun O H locs la hI hS hl hL => lv_dload O.hx O.hb d (gL_at hl (i := 5) rfl (Or.inr hc)) (kk O H locs la hI hS hl hL)
theorem g_lload6 {o0 o1 o2 o3 o4 o5 : Option Value} {r : List (Option Value)} {x : Int64} (d : decode cc pc = .ok (.lload 6, 2)) (hc : 6 = M.c2) (kk : V E cc own M Po Px X h k n (pc + 2) (o0 :: o1 :: o2 :: o3 :: o4 :: o5 :: some (.long x) :: r) (.long x :: st)) : V E cc own M Po Px X h k n pc (o0 :: o1 :: o2 :: o3 :: o4 :: o5 :: some (.long x) :: r) st := fun O H locs la hI hS hl hL => lv_lload O.hx O.hb d (gL_at hl (i := 6) rfl (Or.inr hc)) (kk O H locs la hI hS hl hL)
theorem g_dload6 {o0 o1 o2 o3 o4 o5 : Option Value} {r : List (Option Value)} {x : UInt64} (d : decode cc pc = .ok (.dload 6, 2)) (hc : 6 = M.c2) (kk : V E cc own M Po Px X h k n (pc + 2) (o0 :: o1 :: o2 :: o3 :: o4 :: o5 :: some (.double x) :: r) (.double x :: st)) : V E cc own M Po Px X h k n pc (o0 :: o1 :: o2 :: o3 :: o4 :: o5 :: some (.double x) :: r) st := fun O H locs la hI hS hl hL => lv_dload O.hx O.hb d (gL_at hl (i := 6) rfl (Or.inr hc)) (kk O H locs la hI hS hl hL)
theorem g_lload7 {o0 o1 o2 o3 o4 o5 o6 : Option Value} {r : List (Option Value)} {x : Int64} (d : decode cc pc = .ok (.lload 7, 2)) (hc : 7 = M.c2) (kk : V E cc own M Po Px X h k n (pc + 2) (o0 :: o1 :: o2 :: o3 :: o4 :: o5 :: o6 :: some (.long x) :: r) (.long x :: st)) : V E cc own M Po Px X h k n pc (o0 :: o1 :: o2 :: o3 :: o4 :: o5 :: o6 :: some (.long x) :: r) st := fun O H locs la hI hS hl hL => lv_lload O.hx O.hb d (gL_at hl (i := 7) rfl (Or.inr hc)) (kk O H locs la hI hS hl hL)
theorem g_dload7 {o0 o1 o2 o3 o4 o5 o6 : Option Value} {r : List (Option Value)} {x : UInt64} (d : decode cc pc = .ok (.dload 7, 2)) (hc : 7 = M.c2) (kk : V E cc own M Po Px X h k n (pc + 2) (o0 :: o1 :: o2 :: o3 :: o4 :: o5 :: o6 :: some (.double x) :: r) (.double x :: st)) : V E cc own M Po Px X h k n pc (o0 :: o1 :: o2 :: o3 :: o4 :: o5 :: o6 :: some (.double x) :: r) st := fun O H locs la hI hS hl hL => lv_dload O.hx O.hb d (gL_at hl (i := 7) rfl (Or.inr hc)) (kk O H locs la hI hS hl hL)
theorem g_lstore6 {o0 o1 o2 o3 o4 o5 : Option Value} {o6 o7 : Option Value} {r : List (Option Value)} {x : Int64} (d : decode cc pc = .ok (.lstore 6, 2)) (hc : M.c2 = 6) (kk : V E cc own M Po Px X h k n (pc + 2) (o0 :: o1 :: o2 :: o3 :: o4 :: o5 :: some (.long x) :: none :: r) st) : V E cc own M Po Px X h k n pc (o0 :: o1 :: o2 :: o3 :: o4 :: o5 :: o6 :: o7 :: r) (.long x :: st) := by
  intro O H locs la hI hS hl hL
  refine lv_lstore O.hx O.hb d hl (by have h9 := hL; simp only [List.length_cons] at h9; omega) rfl (fun la' hl' => kk O H locs la' hI hS ⟨hl'.1, hl'.2.1, fun q hq => hl'.2.2 q ?_⟩ (by have h9 := hL; simp only [List.length_cons] at h9 ⊢; exact h9))
  obtain ⟨j, w⟩ := q
  obtain ⟨h1, h2, h3⟩ := gL_mem.mp hq
  simp only [Nat.sub_zero] at h2
  by_cases e6 : j = 6
  · subst e6
    simp at h2
    subst h2
    exact List.mem_cons_self
  · by_cases e7 : j = 7
    · subst e7
      simp at h2
    · refine List.mem_cons_of_mem _ (List.mem_filter.mpr ⟨gL_mem.mpr ⟨h1, ?_, h3⟩, ?_⟩)
      · simp only [Nat.sub_zero]
        match j, e6, e7, h2 with
        | 0, _, _, h2 => exact h2
        | 1, _, _, h2 => exact h2
        | 2, _, _, h2 => exact h2
        | 3, _, _, h2 => exact h2
        | 4, _, _, h2 => exact h2
        | 5, _, _, h2 => exact h2
        | j + 8, _, _, h2 => exact h2
      · simp only [Bool.and_eq_true, Bool.not_eq_true', beq_eq_false_iff_ne, ne_eq, Bool.and_eq_false_iff]
        refine ⟨e6, e7, ?_⟩
        rcases h3 with h3 | h3
        · right
          omega
        · omega
theorem g_iret {v : Int32} (d : decode cc pc = .ok (.ireturn, 1)) (hr : M.ret = some .int) (hq : Po (some (.int v)) h) (hk : k ≤ M.rm.cells := by decide) (hn : n ≤ M.rm.slots := by decide) : V E cc own M Po Px X h k n pc ls [.int v] := fun O H locs la hI hS hl hL => vx_ret (W.widen hk hn (W.iret O.hx O.hb (O.hr.trans hr) (fun t ht hW => ⟨⟨_, h, rfl, hq, ht ▸ hI⟩, hS.F ht⟩) hS.2.2 d O.hlocks))
theorem g_zret {v : Int32} {ty : FieldType} (d : decode cc pc = .ok (.ireturn, 1)) (hr : M.ret = some ty) (hz : narrow ty (.int v) = .int v) (hq : Po (some (.int v)) h) (hk : k ≤ M.rm.cells := by decide) (hn : n ≤ M.rm.slots := by decide) : V E cc own M Po Px X h k n pc ls [.int v] := fun O H locs la hI hS hl hL => vx_ret (W.widen hk hn (W.zret O.hx O.hb (O.hr.trans hr) hz (fun t ht hW => ⟨⟨_, h, rfl, hq, ht ▸ hI⟩, hS.F ht⟩) hS.2.2 d O.hlocks))
theorem g_vret (d : decode cc pc = .ok (.return_, 1)) (hr : M.ret = none) (hq : Po none h) (hk : k ≤ M.rm.cells := by decide) (hn : n ≤ M.rm.slots := by decide) : V E cc own M Po Px X h k n pc ls [] := fun O H locs la hI hS hl hL => vx_ret (W.widen hk hn (W.vret O.hx O.hb (O.hr.trans hr) (fun t ht hW => ⟨⟨_, h, rfl, hq, ht ▸ hI⟩, hS.F ht⟩) hS.2.2 d O.hlocks))
theorem g_lret {v : Int64} (d : decode cc pc = .ok (.lreturn, 1)) (hr : M.ret = some .long) (hq : Po (some (.long v)) h) (hk : k ≤ M.rm.cells := by decide) (hn : n ≤ M.rm.slots := by decide) : V E cc own M Po Px X h k n pc ls [.long v] := fun O H locs la hI hS hl hL => vx_ret (W.widen hk hn (W.lret O.hx O.hb (O.hr.trans hr) (fun t ht hW => ⟨⟨_, h, rfl, hq, ht ▸ hI⟩, hS.F ht⟩) hS.2.2 d O.hlocks))
theorem g_aret {v : Nat} {rt : FieldType} (d : decode cc pc = .ok (.areturn, 1)) (hr : M.ret = some rt) (hrt : (∃ n, rt = .object n) ∨ ∃ t, rt = .array t) (hq : Po (some (.ref v)) h) (hk : k ≤ M.rm.cells := by decide) (hn : n ≤ M.rm.slots := by decide) : V E cc own M Po Px X h k n pc ls [.ref v] := fun O H locs la hI hS hl hL => vx_ret (W.widen hk hn (W.aret O.hx O.hb (O.hr.trans hr) hrt (Or.inr ⟨v, rfl⟩) (fun t ht hW => ⟨⟨_, h, rfl, hq, ht ▸ hI⟩, hS.F ht⟩) hS.2.2 d O.hlocks))
theorem g_aretQ {y : Option Nat} {rt : FieldType} (d : decode cc pc = .ok (.areturn, 1)) (hr : M.ret = some rt) (hrt : (∃ n, rt = .object n) ∨ ∃ t, rt = .array t) (hq : Po (some (va_rf y)) h) (hk : k ≤ M.rm.cells := by decide) (hn : n ≤ M.rm.slots := by decide) : V E cc own M Po Px X h k n pc ls [va_rf y] := fun O H locs la hI hS hl hL => vx_ret (W.widen hk hn (W.aret O.hx O.hb (O.hr.trans hr) hrt (va_rf_or y) (fun t ht hW => ⟨⟨_, h, rfl, hq, ht ▸ hI⟩, hS.F ht⟩) hS.2.2 d O.hlocks))
theorem g_in {E : GE} {h : AH} {H : Heap} {a t : Nat} {e : va_E} {ws : va_W} (hm : ∀ (a t : Nat) (e : va_E), h a = some (t, e) → (a, e) ∈ ws) (ha : h a = some (t, e)) : ∃ q0 : Nat, ws[q0]? = some (a, e) := List.getElem?_of_mem (hm a t e ha)
theorem g_put_in {h : AH} {a t : Nat} {e e' : va_E} {ws : va_W} {A : Nat → Prop} (hD : va_D A ws) (hm : ∀ (a t : Nat) (e : va_E), h a = some (t, e) → (a, e) ∈ ws) {q0 : Nat} (h0 : ws[q0]? = some (a, e)) : ∀ (b t' : Nat) (x : va_E), g_up h a (t, e') b = some (t', x) → (b, x) ∈ ws.set q0 (a, e') := by
  intro b t' x hx
  have hlt : q0 < ws.length := (List.getElem?_eq_some_iff.mp h0).1
  by_cases hb : b = a
  · subst hb
    rw [g_up_self] at hx
    cases hx
    exact List.mem_of_getElem? (i := q0) (by simp [hlt])
  · rw [g_up_ne _ hb] at hx
    obtain ⟨j, hj⟩ := List.getElem?_of_mem (hm b t' x hx)
    have hne : q0 ≠ j := by
      intro e9
      subst e9
      rw [h0] at hj
      cases hj
      exact hb rfl
    exact List.mem_of_getElem? (i := j) (by rw [List.getElem?_set_ne hne]; exact hj)
theorem g_new_in {h : AH} {a t : Nat} {e : va_E} {ws : va_W} (hm : ∀ (a t : Nat) (e : va_E), h a = some (t, e) → (a, e) ∈ ws) : ∀ (b t' : Nat) (x : va_E), g_up h a (t, e) b = some (t', x) → (b, x) ∈ ws ++ [(a, e)] := by
  intro b t' x hx
  by_cases hb : b = a
  · subst hb
    rw [g_up_self] at hx
    cases hx
    simp
  · rw [g_up_ne _ hb] at hx
    exact List.mem_append_left _ (hm b t' x hx)
theorem g_new_fresh {h : AH} {a : Nat} {e : va_E} {ws : va_W} {A : Nat → Prop} (hD : va_D A (ws ++ [(a, e)])) (hm : ∀ (a t : Nat) (e : va_E), h a = some (t, e) → (a, e) ∈ ws) : h a = none := by
  cases ha : h a with
  | none => rfl
  | some x =>
    obtain ⟨t, y⟩ := x
    obtain ⟨j, hj⟩ := List.getElem?_of_mem (hm a t y ha)
    have hlt : j < ws.length := (List.getElem?_eq_some_iff.mp hj).1
    have e1 : (ws ++ [(a, e)])[j]? = some (a, y) := by rw [List.getElem?_append_left hlt]; exact hj
    have e2 : (ws ++ [(a, e)])[ws.length]? = some (a, e) := by simp
    have := hD.1 j ws.length _ _ e1 e2 rfl
    omega
theorem g_old {E : GE} {H : Heap} {locs : List Loc} {s : State} (hS0 : va_S (gA E) E.S0.heap s.heap []) (hS : va_S (gA E) s.heap H locs) : va_S (gA E) E.S0.heap H [] :=
  ⟨Nat.le_trans hS0.1 hS.1, fun q h1 h2 => (hS.2.1 q (Nat.lt_of_lt_of_le h1 hS0.1) h2).trans (hS0.2.1 q h1 h2), fun _ z => nomatch z⟩
abbrev gO (ci : Nat) (fs : List Value) : va_E := .inr (ci, fs)
abbrev gAI (E : GE) (N : Nat) (f : Nat → Int32) : va_E := .inl (E.dA 0, N, .inl f)
abbrev gAL (E : GE) (N : Nat) (f : Nat → Int64) : va_E := .inl (E.dA 1, N, .inr (.inl f))
abbrev gAZ (E : GE) (N : Nat) (f : Nat → Int32) : va_E := .inl (E.dA 2, N, .inl f)
abbrev gAB (E : GE) (N : Nat) (f : Nat → Int32) : va_E := .inl (E.dA 3, N, .inl f)
abbrev gAC (E : GE) (N : Nat) (f : Nat → Int32) : va_E := .inl (E.dA 4, N, .inl f)
abbrev gAR (E : GE) (j : Nat) (N : Nat) (f : Nat → Option Nat) : va_E := .inl (E.dA j, N, .inr (.inr (.inr (.inr f))))
theorem g_get {C : String} {T : u_T} {N ci index a t k0 : Nat} {fs : List Value} {v : Value} (ha : h a = some (t, gO ci fs)) (hin : ∀ w ∈ u_ws C T N, w ∈ lw_all) (hlink : Cond.fieldLink own index (T k0).1 (T k0).2.1 (T k0).2.2.1 ∈ lw_all) (hc : gCl[ci]? = some (C, T, N)) (hk : k0 < N) (hv : fs[k0]? = some v) (d : decode cc pc = .ok (.getfield index, 3)) (kk : V E cc own M Po Px X h k n (pc + 3) ls (v :: st)) : V E cc own M Po Px X h k n pc ls (.ref a :: st) := by
  intro O H locs la hI hS hl hL
  obtain ⟨h0, ws, hP, hD, hm⟩ := id hI
  obtain ⟨q0, hq⟩ := g_in (E := E) (H := H) hm ha
  exact va_get (D := E.D) (C := C) (T := T) (N := N) O.hx O.hb O.hts hin O.hown O.hK hP q0 hq hc k0 hk (O.hts _ hlink) (fun _ h9 => h9) hv d (kk O H locs la hI hS hl hL)
/-- a field of a nest mate -/
theorem g_getN {C host : String} {T : u_T} {N ci index a t k0 : Nat} {fs : List Value} {v : Value} (ha : h a = some (t, gO ci fs)) (hin : ∀ w ∈ u_ws C T N, w ∈ lw_all) (hlink : Cond.fieldLinkNest own index (T k0).1 (T k0).2.1 (T k0).2.2.1 host ∈ lw_tbl) (hc : gCl[ci]? = some (C, T, N)) (hk : k0 < N) (hv : fs[k0]? = some v) (d : decode cc pc = .ok (.getfield index, 3)) (kk : V E cc own M Po Px X h k n (pc + 3) ls (v :: st)) : V E cc own M Po Px X h k n pc ls (.ref a :: st) := by
  intro O H locs la hI hS hl hL
  obtain ⟨h0, ws, hP, hD, hm⟩ := id hI
  obtain ⟨q0, hq⟩ := g_in (E := E) (H := H) hm ha
  exact va_getN (D := E.D) (C := C) (T := T) (N := N) O.hx O.hb O.hts hin O.hown O.hK hP q0 hq hc k0 hk (va_Nw.use rfl (va_Nw.warmF O.hW (va_Nw.of rfl (O.hE.2.2.1 _ hlink)))) (fun _ h9 => h9) hv d (kk O H locs la hI hS hl hL)
theorem g_put {C : String} {T : u_T} {N ci index a t k0 : Nat} {fs : List Value} {v : Value} {ty0 : Nat → FieldType} (ha : h a = some (t, gO ci fs)) (hin : ∀ w ∈ u_ws C T N, w ∈ lw_all) (hlink : Cond.fieldLink own index (T k0).1 (T k0).2.1 (T k0).2.2.1 ∈ lw_all) (hty : ∀ k, k < N → parseFieldDescriptor (T k).2.2.1 = some (ty0 k)) (hnm : ∀ a, a < N → ∀ b, b < N → a ≠ b → (T a).2.1 ≠ (T b).2.1) (hc : gCl[ci]? = some (C, T, N)) (hk : k0 < N) (hfin : (T k0).2.2.2 = false) (hn2 : narrow (ty0 k0) v = v) (hfit : fits (ty0 k0) v = true) (hlen : k0 < fs.length) (d : decode cc pc = .ok (.putfield index, 3)) (kk : V E cc own M Po Px X (g_up h a (t, gO ci (fs.set k0 v))) k n (pc + 3) ls st) : V E cc own M Po Px X h k n pc ls (v :: .ref a :: st) := by
  intro O H locs la hI hS hl hL
  obtain ⟨h0, ws, hP, hD, hm⟩ := id hI
  obtain ⟨q0, hq⟩ := g_in (E := E) (H := H) hm ha
  exact va_put (D := E.D) (C := C) (T := T) (N := N) O.hx O.hb O.hts hin ty0 hty hnm O.hown O.hK hP hD hS q0 hq hc k0 hk (O.hts _ hlink) (fun _ h9 => h9) hfin (hty k0 hk) hn2 hfit hlen d (fun H1 locs1 hP1 hD1 hS1 => kk O H1 locs1 la ⟨g_old O.hS0 hS1, _, hP1, hD1, g_put_in hD hm hq⟩ hS1 hl hL)
theorem g_putN {C host : String} {T : u_T} {N ci index a t k0 : Nat} {fs : List Value} {v : Value} {ty0 : Nat → FieldType} (ha : h a = some (t, gO ci fs)) (hin : ∀ w ∈ u_ws C T N, w ∈ lw_all) (hlink : Cond.fieldLinkNest own index (T k0).1 (T k0).2.1 (T k0).2.2.1 host ∈ lw_tbl) (hty : ∀ k, k < N → parseFieldDescriptor (T k).2.2.1 = some (ty0 k)) (hnm : ∀ a, a < N → ∀ b, b < N → a ≠ b → (T a).2.1 ≠ (T b).2.1) (hc : gCl[ci]? = some (C, T, N)) (hk : k0 < N) (hfin : (T k0).2.2.2 = false) (hn2 : narrow (ty0 k0) v = v) (hfit : fits (ty0 k0) v = true) (hlen : k0 < fs.length) (d : decode cc pc = .ok (.putfield index, 3)) (kk : V E cc own M Po Px X (g_up h a (t, gO ci (fs.set k0 v))) k n (pc + 3) ls st) : V E cc own M Po Px X h k n pc ls (v :: .ref a :: st) := by
  intro O H locs la hI hS hl hL
  obtain ⟨h0, ws, hP, hD, hm⟩ := id hI
  obtain ⟨q0, hq⟩ := g_in (E := E) (H := H) hm ha
  exact va_putN (D := E.D) (C := C) (T := T) (N := N) O.hx O.hb O.hts hin ty0 hty hnm O.hown O.hK hP hD hS q0 hq hc k0 hk (va_Nw.use rfl (va_Nw.warmF O.hW (va_Nw.of rfl (O.hE.2.2.1 _ hlink)))) (fun _ h9 => h9) hfin (hty k0 hk) hn2 hfit hlen d (fun H1 locs1 hP1 hD1 hS1 => kk O H1 locs1 la ⟨g_old O.hS0 hS1, _, hP1, hD1, g_put_in hD hm hq⟩ hS1 hl hL)
theorem g_putF {C : String} {T : u_T} {N ci index a t k0 : Nat} {fs : List Value} {v : Value} {ty0 : Nat → FieldType} (ha : h a = some (t, gO ci fs)) (hin : ∀ w ∈ u_ws C T N, w ∈ lw_all) (hlink : Cond.fieldLink own index (T k0).1 (T k0).2.1 (T k0).2.2.1 ∈ lw_all) (hty : ∀ k, k < N → parseFieldDescriptor (T k).2.2.1 = some (ty0 k)) (hnm : ∀ a, a < N → ∀ b, b < N → a ≠ b → (T a).2.1 ≠ (T b).2.1) (hc : gCl[ci]? = some (C, T, N)) (hk : k0 < N) (hfin : (T k0).2.2.2 = true) (hini : M.y.name = "<init>") (hdecl : (T k0).1 = own) (hn2 : narrow (ty0 k0) v = v) (hfit : fits (ty0 k0) v = true) (hlen : k0 < fs.length) (d : decode cc pc = .ok (.putfield index, 3)) (kk : V E cc own M Po Px X (g_up h a (t, gO ci (fs.set k0 v))) k n (pc + 3) ls st) : V E cc own M Po Px X h k n pc ls (v :: .ref a :: st) := by
  intro O H locs la hI hS hl hL
  obtain ⟨h0, ws, hP, hD, hm⟩ := id hI
  obtain ⟨q0, hq⟩ := g_in (E := E) (H := H) hm ha
  exact va_putF (D := E.D) (C := C) (T := T) (N := N) O.hx O.hb O.hts hin ty0 hty hnm O.hown O.hK hP hD hS q0 hq hc k0 hk (O.hts _ hlink) (fun _ h9 => h9) hfin (O.hnm.trans hini) hdecl (hty k0 hk) hn2 hfit hlen d (fun H1 locs1 hP1 hD1 hS1 => kk O H1 locs1 la ⟨g_old O.hS0 hS1, _, hP1, hD1, g_put_in hD hm hq⟩ hS1 hl hL)
theorem g_new {C : String} {T : u_T} {N index : Nat} {ty : Nat → FieldType} (ci t : Nat) (fs : List Value) (hin : ∀ w ∈ u_ws C T N, w ∈ lw_all) (hty : ∀ k, k < N → parseFieldDescriptor (T k).2.2.1 = some (ty k)) (hcl : Cond.classLink own index C ∈ lw_all) (hinst : Cond.instantiable C N ∈ lw_all) (hini : Cond.initialized C ∈ lw_all) (hc : gCl[ci]? = some (C, T, N)) (hfs : ∀ j, j < N → defaultValue (ty j) = vp_V fs j) (hk : k + 1 ≤ M.rm.cells) (hn : n + N ≤ M.rm.slots) (d : decode cc pc = .ok (.new index, 3)) (kk : ∀ q : Nat, h q = none → V E cc own M Po Px X (g_up h q (t, gO ci fs)) (k + 1) (n + N) (pc + 3) ls (.ref q :: st)) : V E cc own M Po Px X h k n pc ls st := by
  intro O H locs la hI hS hl hL
  obtain ⟨h0, ws, hP, hD, hm⟩ := id hI
  exact va_new (D := E.D) (C := C) (T := T) (N := N) (ci := ci) (fs := fs) O.hx O.hb O.hts hin ty hty O.hown (O.hts _ hcl) (O.hts _ hinst) (O.hts _ hini) O.hK hP hD hS O.hA hc hfs hk hn d (fun q H1 hP1 hD1 hS1 => kk q (g_new_fresh hD1 hm) O H1 locs la ⟨g_old O.hS0 hS1, _, hP1, hD1, g_new_in hm⟩ hS1 hl hL)
theorem g_objInit {index a : Nat} (q1 : Cond.methodLink own index objectInit ∈ lw_all) (q2 : Cond.instanceMethod objectInit ∈ lw_all) (q3 : Cond.code objectInit ⟨#[0xb1]⟩ 1 none ∈ lw_all) (d : decode cc pc = .ok (.invokespecial index, 3)) (hf : 1 ≤ M.rm.frames) (hlo : 2 * (F0 X.m pc #[] []).monitorRoom + (st.map fun v => v.category).sum + 12 ≤ M.rm.locals) (kk : V E cc own M Po Px X h k n (pc + 3) ls st) : V E cc own M Po Px X h k n pc ls (.ref a :: st) := fun O H locs la hI hS hl hL => W.objInit O.hx O.hb O.hown (O.hts _ q1) (O.hts _ q2) (O.hts _ q3) rfl (hl.1.trans O.hml.symm) rfl d hf hlo (kk O H locs la hI hS hl hL)

theorem g_iald {a t N : Nat} {f : Nat → Int32} {i : Int32} (ha : h a = some (t, gAI E N f)) (hin : vp_in i N) (d : decode cc pc = .ok (.iaload, 1)) (kk : V E cc own M Po Px X h k n (pc + 1) ls (.int (f i.toNatClampNeg) :: st)) : V E cc own M Po Px X h k n pc ls (.int i :: .ref a :: st) := by
  intro O H locs la hI hS hl hL
  obtain ⟨h0, ws, hP, hD, hm⟩ := id hI
  obtain ⟨q0, hq⟩ := g_in (E := E) (H := H) hm ha
  exact va_iald O.hx O.hb O.hK hP q0 0 hq rfl hin d (kk O H locs la hI hS hl hL)
theorem g_iast {a t N : Nat} {f : Nat → Int32} {i : Int32} {x : Int32} (ha : h a = some (t, gAI E N f)) (hin : vp_in i N) (d : decode cc pc = .ok (.iastore, 1)) (kk : V E cc own M Po Px X (g_up h a (t, gAI E N (upd f i.toNatClampNeg x))) k n (pc + 1) ls st) : V E cc own M Po Px X h k n pc ls (.int x :: .int i :: .ref a :: st) := by
  intro O H locs la hI hS hl hL
  obtain ⟨h0, ws, hP, hD, hm⟩ := id hI
  obtain ⟨q0, hq⟩ := g_in (E := E) (H := H) hm ha
  exact va_iast O.hx O.hb O.hK hP hD hS q0 0 hq rfl hin d (fun H1 locs1 hP1 hD1 hS1 => kk O H1 locs1 la ⟨g_old O.hS0 hS1, _, hP1, hD1, g_put_in hD hm hq⟩ hS1 hl hL)
theorem g_bald {a t N : Nat} {f : Nat → Int32} {i : Int32} (ha : h a = some (t, gAB E N f)) (hin : vp_in i N) (d : decode cc pc = .ok (.baload, 1)) (kk : V E cc own M Po Px X h k n (pc + 1) ls (.int (f i.toNatClampNeg) :: st)) : V E cc own M Po Px X h k n pc ls (.int i :: .ref a :: st) := by
  intro O H locs la hI hS hl hL
  obtain ⟨h0, ws, hP, hD, hm⟩ := id hI
  obtain ⟨q0, hq⟩ := g_in (E := E) (H := H) hm ha
  exact va_bald O.hx O.hb O.hK hP q0 3 hq rfl hin d (kk O H locs la hI hS hl hL)
theorem g_bast {a t N : Nat} {f : Nat → Int32} {i : Int32} {x : Int32} (ha : h a = some (t, gAB E N f)) (hin : vp_in i N) (d : decode cc pc = .ok (.bastore, 1)) (kk : V E cc own M Po Px X (g_up h a (t, gAB E N (upd f i.toNatClampNeg (vp_nar .byte x)))) k n (pc + 1) ls st) : V E cc own M Po Px X h k n pc ls (.int x :: .int i :: .ref a :: st) := by
  intro O H locs la hI hS hl hL
  obtain ⟨h0, ws, hP, hD, hm⟩ := id hI
  obtain ⟨q0, hq⟩ := g_in (E := E) (H := H) hm ha
  exact va_bast O.hx O.hb O.hK hP hD hS q0 3 hq rfl hin d (fun H1 locs1 hP1 hD1 hS1 => kk O H1 locs1 la ⟨g_old O.hS0 hS1, _, hP1, hD1, g_put_in hD hm hq⟩ hS1 hl hL)
theorem g_zald {a t N : Nat} {f : Nat → Int32} {i : Int32} (ha : h a = some (t, gAZ E N f)) (hin : vp_in i N) (d : decode cc pc = .ok (.baload, 1)) (kk : V E cc own M Po Px X h k n (pc + 1) ls (.int (f i.toNatClampNeg) :: st)) : V E cc own M Po Px X h k n pc ls (.int i :: .ref a :: st) := by
  intro O H locs la hI hS hl hL
  obtain ⟨h0, ws, hP, hD, hm⟩ := id hI
  obtain ⟨q0, hq⟩ := g_in (E := E) (H := H) hm ha
  exact va_zald O.hx O.hb O.hK hP q0 2 hq rfl hin d (kk O H locs la hI hS hl hL)
theorem g_zast {a t N : Nat} {f : Nat → Int32} {i : Int32} {x : Int32} (ha : h a = some (t, gAZ E N f)) (hin : vp_in i N) (d : decode cc pc = .ok (.bastore, 1)) (kk : V E cc own M Po Px X (g_up h a (t, gAZ E N (upd f i.toNatClampNeg (vp_nar .boolean x)))) k n (pc + 1) ls st) : V E cc own M Po Px X h k n pc ls (.int x :: .int i :: .ref a :: st) := by
  intro O H locs la hI hS hl hL
  obtain ⟨h0, ws, hP, hD, hm⟩ := id hI
  obtain ⟨q0, hq⟩ := g_in (E := E) (H := H) hm ha
  exact va_zast O.hx O.hb O.hK hP hD hS q0 2 hq rfl hin d (fun H1 locs1 hP1 hD1 hS1 => kk O H1 locs1 la ⟨g_old O.hS0 hS1, _, hP1, hD1, g_put_in hD hm hq⟩ hS1 hl hL)
theorem g_cald {a t N : Nat} {f : Nat → Int32} {i : Int32} (ha : h a = some (t, gAC E N f)) (hin : vp_in i N) (d : decode cc pc = .ok (.caload, 1)) (kk : V E cc own M Po Px X h k n (pc + 1) ls (.int (f i.toNatClampNeg) :: st)) : V E cc own M Po Px X h k n pc ls (.int i :: .ref a :: st) := by
  intro O H locs la hI hS hl hL
  obtain ⟨h0, ws, hP, hD, hm⟩ := id hI
  obtain ⟨q0, hq⟩ := g_in (E := E) (H := H) hm ha
  exact va_cald O.hx O.hb O.hK hP q0 4 hq rfl hin d (kk O H locs la hI hS hl hL)
theorem g_cast {a t N : Nat} {f : Nat → Int32} {i : Int32} {x : Int32} (ha : h a = some (t, gAC E N f)) (hin : vp_in i N) (d : decode cc pc = .ok (.castore, 1)) (kk : V E cc own M Po Px X (g_up h a (t, gAC E N (upd f i.toNatClampNeg (vp_nar .char x)))) k n (pc + 1) ls st) : V E cc own M Po Px X h k n pc ls (.int x :: .int i :: .ref a :: st) := by
  intro O H locs la hI hS hl hL
  obtain ⟨h0, ws, hP, hD, hm⟩ := id hI
  obtain ⟨q0, hq⟩ := g_in (E := E) (H := H) hm ha
  exact va_cast O.hx O.hb O.hK hP hD hS q0 4 hq rfl hin d (fun H1 locs1 hP1 hD1 hS1 => kk O H1 locs1 la ⟨g_old O.hS0 hS1, _, hP1, hD1, g_put_in hD hm hq⟩ hS1 hl hL)
theorem g_lald {a t N : Nat} {f : Nat → Int64} {i : Int32} (ha : h a = some (t, gAL E N f)) (hin : vp_in i N) (d : decode cc pc = .ok (.laload, 1)) (kk : V E cc own M Po Px X h k n (pc + 1) ls (.long (f i.toNatClampNeg) :: st)) : V E cc own M Po Px X h k n pc ls (.int i :: .ref a :: st) := by
  intro O H locs la hI hS hl hL
  obtain ⟨h0, ws, hP, hD, hm⟩ := id hI
  obtain ⟨q0, hq⟩ := g_in (E := E) (H := H) hm ha
  exact va_lald O.hx O.hb O.hK hP q0 1 hq rfl hin d (kk O H locs la hI hS hl hL)
theorem g_last {a t N : Nat} {f : Nat → Int64} {i : Int32} {x : Int64} (ha : h a = some (t, gAL E N f)) (hin : vp_in i N) (d : decode cc pc = .ok (.lastore, 1)) (kk : V E cc own M Po Px X (g_up h a (t, gAL E N (vp_updL f i.toNatClampNeg x))) k n (pc + 1) ls st) : V E cc own M Po Px X h k n pc ls (.long x :: .int i :: .ref a :: st) := by
  intro O H locs la hI hS hl hL
  obtain ⟨h0, ws, hP, hD, hm⟩ := id hI
  obtain ⟨q0, hq⟩ := g_in (E := E) (H := H) hm ha
  exact va_last O.hx O.hb O.hK hP hD hS q0 1 hq rfl hin d (fun H1 locs1 hP1 hD1 hS1 => kk O H1 locs1 la ⟨g_old O.hS0 hS1, _, hP1, hD1, g_put_in hD hm hq⟩ hS1 hl hL)
theorem g_newi {N : Nat} {z : Int32} (t : Nat) (harr : Cond.arrayClass .int ∈ lw_all) (hz : ¬ z < 0) (hN : z.toNatClampNeg = N) (hby : N * componentBytes .int ≤ 536870912) (hk : k + 1 ≤ M.rm.cells) (hn : n + N ≤ M.rm.slots) (d : decode cc pc = .ok (.newarray .int, 2)) (kk : ∀ q : Nat, h q = none → V E cc own M Po Px X (g_up h q (t, gAI E N (fun _ => 0))) (k + 1) (n + N) (pc + 2) ls (.ref q :: st)) : V E cc own M Po Px X h k n pc ls (.int z :: st) := by
  intro O H locs la hI hS hl hL
  obtain ⟨h0, ws, hP, hD, hm⟩ := id hI
  refine va_newa (atype := .int) (ty := .int) (a0 := (N, .inl (fun _ => 0))) O.hx O.hb (O.hts _ harr) rfl O.hK hP hD hS O.hA (fun _ => rfl) hz hN hby hk hn d (fun q cA H1 hK1 hP1 hD1 hS1 => ?_)
  have e1 := va_nm_int ((hK1.2 10 _ rfl).2)
  have e2 := va_nm_int ((O.hK.2 0 _ rfl).2)
  have e3 : cA = E.dA 0 := Option.some.inj (e1.symm.trans e2)
  subst e3
  exact kk q (g_new_fresh hD1 hm) O H1 locs la ⟨g_old O.hS0 hS1, _, hP1, hD1, g_new_in hm⟩ hS1 hl hL
theorem g_newb {N : Nat} {z : Int32} (t : Nat) (harr : Cond.arrayClass .byte ∈ lw_all) (hz : ¬ z < 0) (hN : z.toNatClampNeg = N) (hby : N * componentBytes .byte ≤ 536870912) (hk : k + 1 ≤ M.rm.cells) (hn : n + N ≤ M.rm.slots) (d : decode cc pc = .ok (.newarray .byte, 2)) (kk : ∀ q : Nat, h q = none → V E cc own M Po Px X (g_up h q (t, gAB E N (fun _ => 0))) (k + 1) (n + N) (pc + 2) ls (.ref q :: st)) : V E cc own M Po Px X h k n pc ls (.int z :: st) := by
  intro O H locs la hI hS hl hL
  obtain ⟨h0, ws, hP, hD, hm⟩ := id hI
  refine va_newa (atype := .byte) (ty := .byte) (a0 := (N, .inl (fun _ => 0))) O.hx O.hb (O.hts _ harr) rfl O.hK hP hD hS O.hA (fun _ => rfl) hz hN hby hk hn d (fun q cA H1 hK1 hP1 hD1 hS1 => ?_)
  have e1 := va_nm_byte ((hK1.2 10 _ rfl).2)
  have e2 := va_nm_byte ((O.hK.2 3 _ rfl).2)
  have e3 : cA = E.dA 3 := Option.some.inj (e1.symm.trans e2)
  subst e3
  exact kk q (g_new_fresh hD1 hm) O H1 locs la ⟨g_old O.hS0 hS1, _, hP1, hD1, g_new_in hm⟩ hS1 hl hL
theorem g_newz {N : Nat} {z : Int32} (t : Nat) (harr : Cond.arrayClass .boolean ∈ lw_all) (hz : ¬ z < 0) (hN : z.toNatClampNeg = N) (hby : N * componentBytes .boolean ≤ 536870912) (hk : k + 1 ≤ M.rm.cells) (hn : n + N ≤ M.rm.slots) (d : decode cc pc = .ok (.newarray .boolean, 2)) (kk : ∀ q : Nat, h q = none → V E cc own M Po Px X (g_up h q (t, gAZ E N (fun _ => 0))) (k + 1) (n + N) (pc + 2) ls (.ref q :: st)) : V E cc own M Po Px X h k n pc ls (.int z :: st) := by
  intro O H locs la hI hS hl hL
  obtain ⟨h0, ws, hP, hD, hm⟩ := id hI
  refine va_newa (atype := .boolean) (ty := .boolean) (a0 := (N, .inl (fun _ => 0))) O.hx O.hb (O.hts _ harr) rfl O.hK hP hD hS O.hA (fun _ => rfl) hz hN hby hk hn d (fun q cA H1 hK1 hP1 hD1 hS1 => ?_)
  have e1 := va_nm_boolean ((hK1.2 10 _ rfl).2)
  have e2 := va_nm_boolean ((O.hK.2 2 _ rfl).2)
  have e3 : cA = E.dA 2 := Option.some.inj (e1.symm.trans e2)
  subst e3
  exact kk q (g_new_fresh hD1 hm) O H1 locs la ⟨g_old O.hS0 hS1, _, hP1, hD1, g_new_in hm⟩ hS1 hl hL
theorem g_newc {N : Nat} {z : Int32} (t : Nat) (harr : Cond.arrayClass .char ∈ lw_all) (hz : ¬ z < 0) (hN : z.toNatClampNeg = N) (hby : N * componentBytes .char ≤ 536870912) (hk : k + 1 ≤ M.rm.cells) (hn : n + N ≤ M.rm.slots) (d : decode cc pc = .ok (.newarray .char, 2)) (kk : ∀ q : Nat, h q = none → V E cc own M Po Px X (g_up h q (t, gAC E N (fun _ => 0))) (k + 1) (n + N) (pc + 2) ls (.ref q :: st)) : V E cc own M Po Px X h k n pc ls (.int z :: st) := by
  intro O H locs la hI hS hl hL
  obtain ⟨h0, ws, hP, hD, hm⟩ := id hI
  refine va_newa (atype := .char) (ty := .char) (a0 := (N, .inl (fun _ => 0))) O.hx O.hb (O.hts _ harr) rfl O.hK hP hD hS O.hA (fun _ => rfl) hz hN hby hk hn d (fun q cA H1 hK1 hP1 hD1 hS1 => ?_)
  have e1 := va_nm_char ((hK1.2 10 _ rfl).2)
  have e2 := va_nm_char ((O.hK.2 4 _ rfl).2)
  have e3 : cA = E.dA 4 := Option.some.inj (e1.symm.trans e2)
  subst e3
  exact kk q (g_new_fresh hD1 hm) O H1 locs la ⟨g_old O.hS0 hS1, _, hP1, hD1, g_new_in hm⟩ hS1 hl hL
theorem g_newl {N : Nat} {z : Int32} (t : Nat) (harr : Cond.arrayClass .long ∈ lw_all) (hz : ¬ z < 0) (hN : z.toNatClampNeg = N) (hby : N * componentBytes .long ≤ 536870912) (hk : k + 1 ≤ M.rm.cells) (hn : n + N ≤ M.rm.slots) (d : decode cc pc = .ok (.newarray .long, 2)) (kk : ∀ q : Nat, h q = none → V E cc own M Po Px X (g_up h q (t, gAL E N (fun _ => 0))) (k + 1) (n + N) (pc + 2) ls (.ref q :: st)) : V E cc own M Po Px X h k n pc ls (.int z :: st) := by
  intro O H locs la hI hS hl hL
  obtain ⟨h0, ws, hP, hD, hm⟩ := id hI
  refine va_newa (atype := .long) (ty := .long) (a0 := (N, .inr (.inl (fun _ => 0)))) O.hx O.hb (O.hts _ harr) rfl O.hK hP hD hS O.hA (fun _ => rfl) hz hN hby hk hn d (fun q cA H1 hK1 hP1 hD1 hS1 => ?_)
  have e1 := va_nm_long ((hK1.2 10 _ rfl).2)
  have e2 := va_nm_long ((O.hK.2 1 _ rfl).2)
  have e3 : cA = E.dA 1 := Option.some.inj (e1.symm.trans e2)
  subst e3
  exact kk q (g_new_fresh hD1 hm) O H1 locs la ⟨g_old O.hS0 hS1, _, hP1, hD1, g_new_in hm⟩ hS1 hl hL
theorem g_alen {a t N : Nat} {x : va_E} {v : Int32} (ha : h a = some (t, x)) (hx : (∃ f, x = gAI E N f) ∨ (∃ f, x = gAL E N f) ∨ (∃ f, x = gAZ E N f) ∨ (∃ f, x = gAB E N f) ∨ (∃ f, x = gAC E N f) ∨ ∃ j f, 5 ≤ j ∧ j < 10 ∧ x = gAR E j N f) (hv : Int32.ofNat N = v) (d : decode cc pc = .ok (.arraylength, 1)) (kk : V E cc own M Po Px X h k n (pc + 1) ls (.int v :: st)) : V E cc own M Po Px X h k n pc ls (.ref a :: st) := by
  intro O H locs la hI hS hl hL
  obtain ⟨h0, ws, hP, hD, hm⟩ := id hI
  obtain ⟨q0, hq⟩ := g_in (E := E) (H := H) hm ha
  rcases hx with ⟨f, rfl⟩ | ⟨f, rfl⟩ | ⟨f, rfl⟩ | ⟨f, rfl⟩ | ⟨f, rfl⟩ | ⟨j, f, h5, h10, rfl⟩
  · exact va_alen O.hx O.hb O.hK hP q0 0 hq rfl hv d (kk O H locs la hI hS hl hL)
  · exact va_alen O.hx O.hb O.hK hP q0 1 hq rfl hv d (kk O H locs la hI hS hl hL)
  · exact va_alen O.hx O.hb O.hK hP q0 2 hq rfl hv d (kk O H locs la hI hS hl hL)
  · exact va_alen O.hx O.hb O.hK hP q0 3 hq rfl hv d (kk O H locs la hI hS hl hL)
  · exact va_alen O.hx O.hb O.hK hP q0 4 hq rfl hv d (kk O H locs la hI hS hl hL)
  · rcases (show j = 5 ∨ j = 6 ∨ j = 7 ∨ j = 8 ∨ j = 9 by omega) with rfl | rfl | rfl | rfl | rfl
    · exact va_alen O.hx O.hb O.hK hP q0 5 hq rfl hv d (kk O H locs la hI hS hl hL)
    · exact va_alen O.hx O.hb O.hK hP q0 6 hq rfl hv d (kk O H locs la hI hS hl hL)
    · exact va_alen O.hx O.hb O.hK hP q0 7 hq rfl hv d (kk O H locs la hI hS hl hL)
    · exact va_alen O.hx O.hb O.hK hP q0 8 hq rfl hv d (kk O H locs la hI hS hl hL)
    · exact va_alen O.hx O.hb O.hK hP q0 9 hq rfl hv d (kk O H locs la hI hS hl hL)
def nup {α : Type} (f : Nat → α) (i : Nat) (x : α) : Nat → α := fun j => if j = i then x else f j
theorem nup_s {α : Type} (f : Nat → α) (i : Nat) (x : α) : nup f i x i = x := if_pos rfl
theorem nup_n {α : Type} (f : Nat → α) {i j : Nat} (x : α) (h : j ≠ i) : nup f i x j = f j := if_neg h
theorem nup_nI (F : Nat → Nat) (i x : Nat) : upd (fun j => nI (F j)) i (nI x) = fun j => nI (nup F i x j) := by
  funext j
  unfold upd nup
  split <;> rfl
theorem nI_small : ∀ c, c < 32 → ((nI c &&& 31).toBitVec.smod 32).toNat = c := by decide +kernel
theorem nI_smallu : ∀ c, c < 32 → ((nI c).toUInt32 &&& Int32.toUInt32 31).toBitVec.toNat % 32 = c := by decide +kernel
theorem nI_land (a b : Nat) : nI a &&& nI b = nI (a &&& b) := by
  apply Int32.toBitVec_inj.mp
  show BitVec.ofNat 32 a &&& BitVec.ofNat 32 b = BitVec.ofNat 32 (a &&& b)
  exact (BitVec.ofNat_and).symm
theorem nI_lor (a b : Nat) : nI a ||| nI b = nI (a ||| b) := by
  apply Int32.toBitVec_inj.mp
  show BitVec.ofNat 32 a ||| BitVec.ofNat 32 b = BitVec.ofNat 32 (a ||| b)
  exact (BitVec.ofNat_or).symm
theorem nI_lxor (a b : Nat) : nI a ^^^ nI b = nI (a ^^^ b) := by
  apply Int32.toBitVec_inj.mp
  show BitVec.ofNat 32 a ^^^ BitVec.ofNat 32 b = BitVec.ofNat 32 (a ^^^ b)
  exact (BitVec.ofNat_xor).symm
theorem nI_mod (a : Nat) : nI (a % 4294967296) = nI a := by
  apply Int32.toBitVec_inj.mp
  show BitVec.ofNat 32 (a % 2 ^ 32) = BitVec.ofNat 32 a
  apply BitVec.eq_of_toNat_eq
  rw [BitVec.toNat_ofNat, BitVec.toNat_ofNat]
  exact Nat.mod_mod a (2 ^ 32)
theorem nI_any (x : Int32) : ∃ p : Nat, p < 4294967296 ∧ x = nI p := ⟨x.toBitVec.toNat, x.toBitVec.isLt, by
  apply Int32.toBitVec_inj.mp
  show x.toBitVec = BitVec.ofNat 32 x.toBitVec.toNat
  simp⟩
/-- a number of 32 bits with its sign -/
def sg (p : Nat) : Int := if p < 2147483648 then (p : Int) else (p : Int) - 4294967296
theorem nI_sg {p : Nat} (h : p < 4294967296) : (nI p).toInt = sg p := by
  show (BitVec.ofNat 32 p).toInt = sg p
  unfold sg
  rw [BitVec.toInt_eq_toNat_cond]
  simp only [BitVec.toNat_ofNat]
  rw [Nat.mod_eq_of_lt (show p < 2 ^ 32 from h)]
  split <;> split <;> omega
theorem nI_ltS {a b : Nat} (ha : a < 4294967296) (hb : b < 4294967296) : nI a < nI b ↔ sg a < sg b := by
  rw [Int32.lt_iff_toInt_lt, nI_sg ha, nI_sg hb]
theorem nI_leS {a b : Nat} (ha : a < 4294967296) (hb : b < 4294967296) : nI a ≤ nI b ↔ sg a ≤ sg b := by
  rw [Int32.le_iff_toInt_le, nI_sg ha, nI_sg hb]
theorem nI_eqU {a b : Nat} (ha : a < 4294967296) (hb : b < 4294967296) : nI a = nI b ↔ a = b := by
  constructor
  · intro h
    have h1 : (BitVec.ofNat 32 a) = BitVec.ofNat 32 b := congrArg Int32.toBitVec h
    have h2 := congrArg BitVec.toNat h1
    simp only [BitVec.toNat_ofNat] at h2
    rwa [Nat.mod_eq_of_lt (show a < 2 ^ 32 from ha), Nat.mod_eq_of_lt (show b < 2 ^ 32 from hb)] at h2
  · intro h
    rw [h]
theorem nI_remr {a d : Nat} (ha : a < 2147483648) (h0 : 0 < d) (hd : d < 2147483648) : jrem (nI a) (nI d) = nI (a % d) := pk_rem ha h0 hd
theorem nI_nz {d : Nat} (h0 : 0 < d) (hd : d < 2147483648) : ¬ nI d = 0 := nI_ne0 h0 hd
theorem nI_2u {q : Nat} (h : q < 65536) : ((nI q).toUInt32 % 65536).toInt32 = nI q := by
  rw [pk_char, pk_tn (by omega), Nat.mod_eq_of_lt h]
theorem g_iaddN {a b : Nat} (d : decode cc pc = .ok (.iadd, 1)) (kk : V E cc own M Po Px X h k n (pc + 1) ls (.int (nI (a + b)) :: st)) : V E cc own M Po Px X h k n pc ls (.int (nI b) :: .int (nI a) :: st) := by
  have e := nI_add a b
  refine g_iadd d ?_
  rw [e]
  exact kk
theorem g_imulN {a b : Nat} (d : decode cc pc = .ok (.imul, 1)) (kk : V E cc own M Po Px X h k n (pc + 1) ls (.int (nI (a * b)) :: st)) : V E cc own M Po Px X h k n pc ls (.int (nI b) :: .int (nI a) :: st) := by
  have e := pk_mul a b
  refine g_imul d ?_
  rw [e]
  exact kk
theorem g_isubN {a b : Nat} (d : decode cc pc = .ok (.isub, 1)) (hab : b ≤ a) (kk : V E cc own M Po Px X h k n (pc + 1) ls (.int (nI (a - b)) :: st)) : V E cc own M Po Px X h k n pc ls (.int (nI b) :: .int (nI a) :: st) := by
  have e := pk_sub hab
  refine g_isub d ?_
  rw [e]
  exact kk
theorem g_idivN {a b : Nat} (d : decode cc pc = .ok (.idiv, 1)) (h0 : 0 < b) (hb : b < 2147483648) (ha : a < 2147483648) (kk : V E cc own M Po Px X h k n (pc + 1) ls (.int (nI (a / b)) :: st)) : V E cc own M Po Px X h k n pc ls (.int (nI b) :: .int (nI a) :: st) := by
  have e := pk_div ha h0 hb
  refine g_idiv d (nI_nz h0 hb) ?_
  rw [e]
  exact kk
theorem g_iremN {a b : Nat} (d : decode cc pc = .ok (.irem, 1)) (h0 : 0 < b) (hb : b < 2147483648) (ha : a < 2147483648) (kk : V E cc own M Po Px X h k n (pc + 1) ls (.int (nI (a % b)) :: st)) : V E cc own M Po Px X h k n pc ls (.int (nI b) :: .int (nI a) :: st) := by
  have e := nI_remr ha h0 hb
  refine g_irem d (nI_nz h0 hb) ?_
  rw [e]
  exact kk
theorem g_iandN {a b : Nat} (d : decode cc pc = .ok (.iand, 1)) (kk : V E cc own M Po Px X h k n (pc + 1) ls (.int (nI (a &&& b)) :: st)) : V E cc own M Po Px X h k n pc ls (.int (nI b) :: .int (nI a) :: st) := by
  have e := nI_land a b
  refine g_iand d ?_
  rw [e]
  exact kk
theorem g_iorN {a b : Nat} (d : decode cc pc = .ok (.ior, 1)) (kk : V E cc own M Po Px X h k n (pc + 1) ls (.int (nI (a ||| b)) :: st)) : V E cc own M Po Px X h k n pc ls (.int (nI b) :: .int (nI a) :: st) := by
  have e := nI_lor a b
  refine g_ior d ?_
  rw [e]
  exact kk
theorem g_ixorN {a b : Nat} (d : decode cc pc = .ok (.ixor, 1)) (kk : V E cc own M Po Px X h k n (pc + 1) ls (.int (nI (a ^^^ b)) :: st)) : V E cc own M Po Px X h k n pc ls (.int (nI b) :: .int (nI a) :: st) := by
  have e := nI_lxor a b
  refine g_ixor d ?_
  rw [e]
  exact kk
theorem g_ishrN {a b : Nat} (d : decode cc pc = .ok (.ishr, 1)) (hb : b < 32) (ha : a < 2147483648) (kk : V E cc own M Po Px X h k n (pc + 1) ls (.int (nI (a / 2 ^ b)) :: st)) : V E cc own M Po Px X h k n pc ls (.int (nI b) :: .int (nI a) :: st) := by
  have e := pk_shrN ha _ b (nI_small b hb)
  refine g_ishr d ?_
  rw [e]
  exact kk
theorem g_ishlN {a b : Nat} (d : decode cc pc = .ok (.ishl, 1)) (hb : b < 32) (ha : a * 2 ^ b < 4294967296) (kk : V E cc own M Po Px X h k n (pc + 1) ls (.int (nI (a * 2 ^ b)) :: st)) : V E cc own M Po Px X h k n pc ls (.int (nI b) :: .int (nI a) :: st) := by
  have e := pk_shlN (n := a) _ b (nI_small b hb) ha
  refine g_ishl d ?_
  rw [e]
  exact kk
theorem g_iushrN {a b : Nat} (d : decode cc pc = .ok (.iushr, 1)) (hb : b < 32) (ha : a < 4294967296) (kk : V E cc own M Po Px X h k n (pc + 1) ls (.int (nI (a / 2 ^ b)) :: st)) : V E cc own M Po Px X h k n pc ls (.int (nI b) :: .int (nI a) :: st) := by
  have e := pk_ushrN ha (nI b) b (nI_smallu b hb)
  refine g_iushr d ?_
  rw [e]
  exact kk
theorem g_iand1 {a : Nat} (d : decode cc pc = .ok (.iand, 1)) (ha : a < 4294967296) (kk : V E cc own M Po Px X h k n (pc + 1) ls (.int (nI (a % 2)) :: st)) : V E cc own M Po Px X h k n pc ls (.int (nI 1) :: .int (nI a) :: st) := by
  refine g_iand d ?_
  rw [show nI a &&& nI 1 = nI (a % 2) from pk_andN ha 1 rfl]
  exact kk
theorem g_iand255 {a : Nat} (d : decode cc pc = .ok (.iand, 1)) (ha : a < 4294967296) (kk : V E cc own M Po Px X h k n (pc + 1) ls (.int (nI (a % 256)) :: st)) : V E cc own M Po Px X h k n pc ls (.int (nI 255) :: .int (nI a) :: st) := by
  refine g_iand d ?_
  rw [show nI a &&& nI 255 = nI (a % 256) from pk_andN ha 8 rfl]
  exact kk
theorem g_i2cN {q : Nat} (d : decode cc pc = .ok (.i2c, 1)) (hq : q < 65536) (kk : V E cc own M Po Px X h k n (pc + 1) ls (.int (nI q) :: st)) : V E cc own M Po Px X h k n pc ls (.int (nI q) :: st) := by
  refine g_i2c d ?_
  rw [nI_2u hq]
  exact kk
theorem g_icmpN_eq {a b : Nat} {off : Int} {tgt : Nat} (d : decode cc pc = .ok (.if_icmp .eq off, 3)) (ht : (pc : Int) + off = (tgt : Int)) (ha : a < 2147483648) (hb : b < 2147483648) (kt : a = b → V E cc own M Po Px X h k n tgt ls st) (kf : ¬ a = b → V E cc own M Po Px X h k n (pc + 3) ls st) : V E cc own M Po Px X h k n pc ls (.int (nI b) :: .int (nI a) :: st) := g_icmp_eq d ht (fun z => kt ((nI_eq ha hb).mp z)) (fun z => kf (fun y => z ((nI_eq ha hb).mpr y)))
theorem g_icmpN_ne {a b : Nat} {off : Int} {tgt : Nat} (d : decode cc pc = .ok (.if_icmp .ne off, 3)) (ht : (pc : Int) + off = (tgt : Int)) (ha : a < 2147483648) (hb : b < 2147483648) (kt : ¬ a = b → V E cc own M Po Px X h k n tgt ls st) (kf : a = b → V E cc own M Po Px X h k n (pc + 3) ls st) : V E cc own M Po Px X h k n pc ls (.int (nI b) :: .int (nI a) :: st) := g_icmp_ne d ht (fun z => kt ((not_congr (nI_eq ha hb)).mp z)) (fun z => kf ((nI_eq ha hb).mp z))
theorem g_icmpN_lt {a b : Nat} {off : Int} {tgt : Nat} (d : decode cc pc = .ok (.if_icmp .lt off, 3)) (ht : (pc : Int) + off = (tgt : Int)) (ha : a < 2147483648) (hb : b < 2147483648) (kt : a < b → V E cc own M Po Px X h k n tgt ls st) (kf : ¬ a < b → V E cc own M Po Px X h k n (pc + 3) ls st) : V E cc own M Po Px X h k n pc ls (.int (nI b) :: .int (nI a) :: st) := g_icmp_lt d ht (fun z => kt ((nI_ltI ha hb).mp z)) (fun z => kf (fun y => z ((nI_ltI ha hb).mpr y)))
theorem g_icmpN_ge {a b : Nat} {off : Int} {tgt : Nat} (d : decode cc pc = .ok (.if_icmp .ge off, 3)) (ht : (pc : Int) + off = (tgt : Int)) (ha : a < 2147483648) (hb : b < 2147483648) (kt : b ≤ a → V E cc own M Po Px X h k n tgt ls st) (kf : ¬ b ≤ a → V E cc own M Po Px X h k n (pc + 3) ls st) : V E cc own M Po Px X h k n pc ls (.int (nI b) :: .int (nI a) :: st) := g_icmp_ge d ht (fun z => kt ((nI_leI hb ha).mp z)) (fun z => kf (fun y => z ((nI_leI hb ha).mpr y)))
theorem g_icmpN_gt {a b : Nat} {off : Int} {tgt : Nat} (d : decode cc pc = .ok (.if_icmp .gt off, 3)) (ht : (pc : Int) + off = (tgt : Int)) (ha : a < 2147483648) (hb : b < 2147483648) (kt : b < a → V E cc own M Po Px X h k n tgt ls st) (kf : ¬ b < a → V E cc own M Po Px X h k n (pc + 3) ls st) : V E cc own M Po Px X h k n pc ls (.int (nI b) :: .int (nI a) :: st) := g_icmp_gt d ht (fun z => kt ((nI_ltI hb ha).mp z)) (fun z => kf (fun y => z ((nI_ltI hb ha).mpr y)))
theorem g_icmpN_le {a b : Nat} {off : Int} {tgt : Nat} (d : decode cc pc = .ok (.if_icmp .le off, 3)) (ht : (pc : Int) + off = (tgt : Int)) (ha : a < 2147483648) (hb : b < 2147483648) (kt : a ≤ b → V E cc own M Po Px X h k n tgt ls st) (kf : ¬ a ≤ b → V E cc own M Po Px X h k n (pc + 3) ls st) : V E cc own M Po Px X h k n pc ls (.int (nI b) :: .int (nI a) :: st) := g_icmp_le d ht (fun z => kt ((nI_leI ha hb).mp z)) (fun z => kf (fun y => z ((nI_leI ha hb).mpr y)))
theorem g_icmpU_eq {a b : Nat} {off : Int} {tgt : Nat} (d : decode cc pc = .ok (.if_icmp .eq off, 3)) (ht : (pc : Int) + off = (tgt : Int)) (ha : a < 4294967296) (hb : b < 4294967296) (kt : a = b → V E cc own M Po Px X h k n tgt ls st) (kf : ¬ a = b → V E cc own M Po Px X h k n (pc + 3) ls st) : V E cc own M Po Px X h k n pc ls (.int (nI b) :: .int (nI a) :: st) := g_icmp_eq d ht (fun z => kt ((nI_eqU ha hb).mp z)) (fun z => kf (fun y => z (by rw [y])))
theorem g_icmpU_ne {a b : Nat} {off : Int} {tgt : Nat} (d : decode cc pc = .ok (.if_icmp .ne off, 3)) (ht : (pc : Int) + off = (tgt : Int)) (ha : a < 4294967296) (hb : b < 4294967296) (kt : ¬ a = b → V E cc own M Po Px X h k n tgt ls st) (kf : a = b → V E cc own M Po Px X h k n (pc + 3) ls st) : V E cc own M Po Px X h k n pc ls (.int (nI b) :: .int (nI a) :: st) := g_icmp_ne d ht (fun z => kt (fun y => z (by rw [y]))) (fun z => kf ((nI_eqU ha hb).mp z))
theorem g_ifN_eq {a : Nat} {off : Int} {tgt : Nat} (d : decode cc pc = .ok (.ifCond .eq off, 3)) (ht : (pc : Int) + off = (tgt : Int)) (ha : a < 4294967296) (kt : a = 0 → V E cc own M Po Px X h k n tgt ls st) (kf : ¬ a = 0 → V E cc own M Po Px X h k n (pc + 3) ls st) : V E cc own M Po Px X h k n pc ls (.int (nI a) :: st) := g_if_eq d ht (fun z => kt ((nI_eqU ha (by decide)).mp z)) (fun z => kf (fun y => z (by rw [y]; rfl)))
theorem g_ifN_ne {a : Nat} {off : Int} {tgt : Nat} (d : decode cc pc = .ok (.ifCond .ne off, 3)) (ht : (pc : Int) + off = (tgt : Int)) (ha : a < 4294967296) (kt : ¬ a = 0 → V E cc own M Po Px X h k n tgt ls st) (kf : a = 0 → V E cc own M Po Px X h k n (pc + 3) ls st) : V E cc own M Po Px X h k n pc ls (.int (nI a) :: st) := g_if_ne d ht (fun z => kt (fun y => z (by rw [y]; rfl))) (fun z => kf ((nI_eqU ha (by decide)).mp z))
theorem g_ifN_lt {a : Nat} {off : Int} {tgt : Nat} (d : decode cc pc = .ok (.ifCond .lt off, 3)) (ht : (pc : Int) + off = (tgt : Int)) (ha : a < 4294967296) (kt : 2147483648 ≤ a → V E cc own M Po Px X h k n tgt ls st) (kf : a < 2147483648 → V E cc own M Po Px X h k n (pc + 3) ls st) : V E cc own M Po Px X h k n pc ls (.int (nI a) :: st) := g_if_lt d ht (fun z => kt (by have z1 := (nI_ltS ha (show 0 < 4294967296 by decide)).mp z; unfold sg at z1; split at z1 <;> simp at z1 <;> omega)) (fun z => kf (Nat.not_le.mp fun y => z ((nI_ltS ha (show 0 < 4294967296 by decide)).mpr (by unfold sg; rw [if_neg (by omega)]; simp; omega))))
theorem g_ifN_ge {a : Nat} {off : Int} {tgt : Nat} (d : decode cc pc = .ok (.ifCond .ge off, 3)) (ht : (pc : Int) + off = (tgt : Int)) (ha : a < 4294967296) (kt : a < 2147483648 → V E cc own M Po Px X h k n tgt ls st) (kf : 2147483648 ≤ a → V E cc own M Po Px X h k n (pc + 3) ls st) : V E cc own M Po Px X h k n pc ls (.int (nI a) :: st) := g_if_ge d ht (fun z => kt (by have z1 := (nI_leS (show 0 < 4294967296 by decide) ha).mp z; unfold sg at z1; rw [if_pos (by decide)] at z1; split at z1 <;> omega)) (fun z => kf (Nat.not_lt.mp fun y => z ((nI_leS (show 0 < 4294967296 by decide) ha).mpr (by unfold sg; rw [if_pos (by decide), if_pos y]; omega))))
theorem g_ifN_gt {a : Nat} {off : Int} {tgt : Nat} (d : decode cc pc = .ok (.ifCond .gt off, 3)) (ht : (pc : Int) + off = (tgt : Int)) (ha : a < 4294967296) (kt : 0 < a ∧ a < 2147483648 → V E cc own M Po Px X h k n tgt ls st) (kf : ¬ (0 < a ∧ a < 2147483648) → V E cc own M Po Px X h k n (pc + 3) ls st) : V E cc own M Po Px X h k n pc ls (.int (nI a) :: st) := g_if_gt d ht (fun z => kt (by have z1 := (nI_ltS (show 0 < 4294967296 by decide) ha).mp z; unfold sg at z1; rw [if_pos (by decide)] at z1; split at z1 <;> omega)) (fun z => kf (fun y => z ((nI_ltS (show 0 < 4294967296 by decide) ha).mpr (by unfold sg; rw [if_pos (by decide), if_pos y.2]; omega))))
theorem g_ifN_le {a : Nat} {off : Int} {tgt : Nat} (d : decode cc pc = .ok (.ifCond .le off, 3)) (ht : (pc : Int) + off = (tgt : Int)) (ha : a < 4294967296) (kt : a = 0 ∨ 2147483648 ≤ a → V E cc own M Po Px X h k n tgt ls st) (kf : ¬ (a = 0 ∨ 2147483648 ≤ a) → V E cc own M Po Px X h k n (pc + 3) ls st) : V E cc own M Po Px X h k n pc ls (.int (nI a) :: st) := g_if_le d ht (fun z => kt (by have z1 := (nI_leS ha (show 0 < 4294967296 by decide)).mp z; unfold sg at z1; split at z1 <;> simp at z1 <;> omega)) (fun z => kf (fun y => z ((nI_leS ha (show 0 < 4294967296 by decide)).mpr (by unfold sg; split <;> simp <;> omega))))
abbrev gAIn (E : GE) (N : Nat) (F : Nat → Nat) : va_E := gAI E N (fun j => nI (F j))
abbrev gAZn (E : GE) (N : Nat) (F : Nat → Nat) : va_E := gAZ E N (fun j => nI (F j))
abbrev gABn (E : GE) (N : Nat) (F : Nat → Nat) : va_E := gAB E N (fun j => nI (F j))
abbrev gACn (E : GE) (N : Nat) (F : Nat → Nat) : va_E := gAC E N (fun j => nI (F j))
theorem nar_z {q : Nat} (h : q < 2) : vp_nar .boolean (nI q) = nI q := by
  rcases (show q = 0 ∨ q = 1 by omega) with rfl | rfl <;> rfl
theorem nar_c {q : Nat} (h : q < 65536) : vp_nar .char (nI q) = nI q := by
  rw [vp_nar_char]
  have e : (nI q).toUInt32.toUInt16.toUInt32 = (nI q).toUInt32 % 65536 := by
    apply UInt32.toNat_inj.mp
    simp
  rw [e]
  exact nI_2u h
theorem g_ialdN {a t N i : Nat} {F : Nat → Nat} (ha : h a = some (t, gAIn E N F)) (hi : i < N) (hN : N < 2147483648) (d : decode cc pc = .ok (.iaload, 1)) (kk : V E cc own M Po Px X h k n (pc + 1) ls (.int (nI (F i)) :: st)) : V E cc own M Po Px X h k n pc ls (.int (nI i) :: .ref a :: st) := by
  refine g_iald ha (vp_in_nI hi hN) d ?_
  rw [nI_clamp (Nat.lt_trans hi hN)]
  exact kk
theorem g_iastN {a t N i x : Nat} {F : Nat → Nat} (ha : h a = some (t, gAIn E N F)) (hi : i < N) (hN : N < 2147483648) (d : decode cc pc = .ok (.iastore, 1)) (kk : V E cc own M Po Px X (g_up h a (t, gAIn E N (nup F i x))) k n (pc + 1) ls st) : V E cc own M Po Px X h k n pc ls (.int (nI x) :: .int (nI i) :: .ref a :: st) := by
  refine g_iast ha (vp_in_nI hi hN) d ?_
  rw [nI_clamp (Nat.lt_trans hi hN), nup_nI]
  exact kk
theorem g_zaldN {a t N i : Nat} {F : Nat → Nat} (ha : h a = some (t, gAZn E N F)) (hi : i < N) (hN : N < 2147483648) (d : decode cc pc = .ok (.baload, 1)) (kk : V E cc own M Po Px X h k n (pc + 1) ls (.int (nI (F i)) :: st)) : V E cc own M Po Px X h k n pc ls (.int (nI i) :: .ref a :: st) := by
  refine g_zald ha (vp_in_nI hi hN) d ?_
  rw [nI_clamp (Nat.lt_trans hi hN)]
  exact kk
theorem g_zastN {a t N i x : Nat} {F : Nat → Nat} (ha : h a = some (t, gAZn E N F)) (hi : i < N) (hN : N < 2147483648) (hx : x < 2) (d : decode cc pc = .ok (.bastore, 1)) (kk : V E cc own M Po Px X (g_up h a (t, gAZn E N (nup F i x))) k n (pc + 1) ls st) : V E cc own M Po Px X h k n pc ls (.int (nI x) :: .int (nI i) :: .ref a :: st) := by
  refine g_zast ha (vp_in_nI hi hN) d ?_
  rw [nI_clamp (Nat.lt_trans hi hN), nar_z hx, nup_nI]
  exact kk
theorem g_caldN {a t N i : Nat} {F : Nat → Nat} (ha : h a = some (t, gACn E N F)) (hi : i < N) (hN : N < 2147483648) (d : decode cc pc = .ok (.caload, 1)) (kk : V E cc own M Po Px X h k n (pc + 1) ls (.int (nI (F i)) :: st)) : V E cc own M Po Px X h k n pc ls (.int (nI i) :: .ref a :: st) := by
  refine g_cald ha (vp_in_nI hi hN) d ?_
  rw [nI_clamp (Nat.lt_trans hi hN)]
  exact kk
theorem g_castN {a t N i x : Nat} {F : Nat → Nat} (ha : h a = some (t, gACn E N F)) (hi : i < N) (hN : N < 2147483648) (hx : x < 65536) (d : decode cc pc = .ok (.castore, 1)) (kk : V E cc own M Po Px X (g_up h a (t, gACn E N (nup F i x))) k n (pc + 1) ls st) : V E cc own M Po Px X h k n pc ls (.int (nI x) :: .int (nI i) :: .ref a :: st) := by
  refine g_cast ha (vp_in_nI hi hN) d ?_
  rw [nI_clamp (Nat.lt_trans hi hN), nar_c hx, nup_nI]
  exact kk
theorem g_iincN0 {r : List (Option Value)} {x : Nat} {z : Int} (c : Nat) (d : decode cc pc = .ok (.iinc 0 z, 3)) (hz : Int32.ofInt z = nI c) (hc : ¬ 0 = M.c2 + 1) (kk : V E cc own M Po Px X h k n (pc + 3) (some (.int (nI (x + c))) :: r) st) : V E cc own M Po Px X h k n pc (some (.int (nI x)) :: r) st := g_iinc0 _ d (by rw [hz, nI_add]) hc kk
theorem g_iincN1 {o0 : Option Value} {r : List (Option Value)} {x : Nat} {z : Int} (c : Nat) (d : decode cc pc = .ok (.iinc 1 z, 3)) (hz : Int32.ofInt z = nI c) (hc : ¬ 1 = M.c2 + 1) (kk : V E cc own M Po Px X h k n (pc + 3) (o0 :: some (.int (nI (x + c))) :: r) st) : V E cc own M Po Px X h k n pc (o0 :: some (.int (nI x)) :: r) st := g_iinc1 _ d (by rw [hz, nI_add]) hc kk
theorem g_iincN2 {o0 o1 : Option Value} {r : List (Option Value)} {x : Nat} {z : Int} (c : Nat) (d : decode cc pc = .ok (.iinc 2 z, 3)) (hz : Int32.ofInt z = nI c) (hc : ¬ 2 = M.c2 + 1) (kk : V E cc own M Po Px X h k n (pc + 3) (o0 :: o1 :: some (.int (nI (x + c))) :: r) st) : V E cc own M Po Px X h k n pc (o0 :: o1 :: some (.int (nI x)) :: r) st := g_iinc2 _ d (by rw [hz, nI_add]) hc kk
theorem g_iincN3 {o0 o1 o2 : Option Value} {r : List (Option Value)} {x : Nat} {z : Int} (c : Nat) (d : decode cc pc = .ok (.iinc 3 z, 3)) (hz : Int32.ofInt z = nI c) (hc : ¬ 3 = M.c2 + 1) (kk : V E cc own M Po Px X h k n (pc + 3) (o0 :: o1 :: o2 :: some (.int (nI (x + c))) :: r) st) : V E cc own M Po Px X h k n pc (o0 :: o1 :: o2 :: some (.int (nI x)) :: r) st := g_iinc3 _ d (by rw [hz, nI_add]) hc kk
theorem g_iincN4 {o0 o1 o2 o3 : Option Value} {r : List (Option Value)} {x : Nat} {z : Int} (c : Nat) (d : decode cc pc = .ok (.iinc 4 z, 3)) (hz : Int32.ofInt z = nI c) (hc : ¬ 4 = M.c2 + 1) (kk : V E cc own M Po Px X h k n (pc + 3) (o0 :: o1 :: o2 :: o3 :: some (.int (nI (x + c))) :: r) st) : V E cc own M Po Px X h k n pc (o0 :: o1 :: o2 :: o3 :: some (.int (nI x)) :: r) st := g_iinc4 _ d (by rw [hz, nI_add]) hc kk
theorem g_iincN5 {o0 o1 o2 o3 o4 : Option Value} {r : List (Option Value)} {x : Nat} {z : Int} (c : Nat) (d : decode cc pc = .ok (.iinc 5 z, 3)) (hz : Int32.ofInt z = nI c) (hc : ¬ 5 = M.c2 + 1) (kk : V E cc own M Po Px X h k n (pc + 3) (o0 :: o1 :: o2 :: o3 :: o4 :: some (.int (nI (x + c))) :: r) st) : V E cc own M Po Px X h k n pc (o0 :: o1 :: o2 :: o3 :: o4 :: some (.int (nI x)) :: r) st := g_iinc5 _ d (by rw [hz, nI_add]) hc kk
theorem g_iincN6 {o0 o1 o2 o3 o4 o5 : Option Value} {r : List (Option Value)} {x : Nat} {z : Int} (c : Nat) (d : decode cc pc = .ok (.iinc 6 z, 3)) (hz : Int32.ofInt z = nI c) (hc : ¬ 6 = M.c2 + 1) (kk : V E cc own M Po Px X h k n (pc + 3) (o0 :: o1 :: o2 :: o3 :: o4 :: o5 :: some (.int (nI (x + c))) :: r) st) : V E cc own M Po Px X h k n pc (o0 :: o1 :: o2 :: o3 :: o4 :: o5 :: some (.int (nI x)) :: r) st := g_iinc6 _ d (by rw [hz, nI_add]) hc kk
theorem g_iincN7 {o0 o1 o2 o3 o4 o5 o6 : Option Value} {r : List (Option Value)} {x : Nat} {z : Int} (c : Nat) (d : decode cc pc = .ok (.iinc 7 z, 3)) (hz : Int32.ofInt z = nI c) (hc : ¬ 7 = M.c2 + 1) (kk : V E cc own M Po Px X h k n (pc + 3) (o0 :: o1 :: o2 :: o3 :: o4 :: o5 :: o6 :: some (.int (nI (x + c))) :: r) st) : V E cc own M Po Px X h k n pc (o0 :: o1 :: o2 :: o3 :: o4 :: o5 :: o6 :: some (.int (nI x)) :: r) st := g_iinc7 _ d (by rw [hz, nI_add]) hc kk
theorem g_iincN8 {o0 o1 o2 o3 o4 o5 o6 o7 : Option Value} {r : List (Option Value)} {x : Nat} {z : Int} (c : Nat) (d : decode cc pc = .ok (.iinc 8 z, 3)) (hz : Int32.ofInt z = nI c) (hc : ¬ 8 = M.c2 + 1) (kk : V E cc own M Po Px X h k n (pc + 3) (o0 :: o1 :: o2 :: o3 :: o4 :: o5 :: o6 :: o7 :: some (.int (nI (x + c))) :: r) st) : V E cc own M Po Px X h k n pc (o0 :: o1 :: o2 :: o3 :: o4 :: o5 :: o6 :: o7 :: some (.int (nI x)) :: r) st := g_iinc8 _ d (by rw [hz, nI_add]) hc kk
theorem g_iincN9 {o0 o1 o2 o3 o4 o5 o6 o7 o8 : Option Value} {r : List (Option Value)} {x : Nat} {z : Int} (c : Nat) (d : decode cc pc = .ok (.iinc 9 z, 3)) (hz : Int32.ofInt z = nI c) (hc : ¬ 9 = M.c2 + 1) (kk : V E cc own M Po Px X h k n (pc + 3) (o0 :: o1 :: o2 :: o3 :: o4 :: o5 :: o6 :: o7 :: o8 :: some (.int (nI (x + c))) :: r) st) : V E cc own M Po Px X h k n pc (o0 :: o1 :: o2 :: o3 :: o4 :: o5 :: o6 :: o7 :: o8 :: some (.int (nI x)) :: r) st := g_iinc9 _ d (by rw [hz, nI_add]) hc kk
theorem g_iincN10 {o0 o1 o2 o3 o4 o5 o6 o7 o8 o9 : Option Value} {r : List (Option Value)} {x : Nat} {z : Int} (c : Nat) (d : decode cc pc = .ok (.iinc 10 z, 3)) (hz : Int32.ofInt z = nI c) (hc : ¬ 10 = M.c2 + 1) (kk : V E cc own M Po Px X h k n (pc + 3) (o0 :: o1 :: o2 :: o3 :: o4 :: o5 :: o6 :: o7 :: o8 :: o9 :: some (.int (nI (x + c))) :: r) st) : V E cc own M Po Px X h k n pc (o0 :: o1 :: o2 :: o3 :: o4 :: o5 :: o6 :: o7 :: o8 :: o9 :: some (.int (nI x)) :: r) st := g_iinc10 _ d (by rw [hz, nI_add]) hc kk
theorem g_iincN11 {o0 o1 o2 o3 o4 o5 o6 o7 o8 o9 o10 : Option Value} {r : List (Option Value)} {x : Nat} {z : Int} (c : Nat) (d : decode cc pc = .ok (.iinc 11 z, 3)) (hz : Int32.ofInt z = nI c) (hc : ¬ 11 = M.c2 + 1) (kk : V E cc own M Po Px X h k n (pc + 3) (o0 :: o1 :: o2 :: o3 :: o4 :: o5 :: o6 :: o7 :: o8 :: o9 :: o10 :: some (.int (nI (x + c))) :: r) st) : V E cc own M Po Px X h k n pc (o0 :: o1 :: o2 :: o3 :: o4 :: o5 :: o6 :: o7 :: o8 :: o9 :: o10 :: some (.int (nI x)) :: r) st := g_iinc11 _ d (by rw [hz, nI_add]) hc kk
theorem g_iincN12 {o0 o1 o2 o3 o4 o5 o6 o7 o8 o9 o10 o11 : Option Value} {r : List (Option Value)} {x : Nat} {z : Int} (c : Nat) (d : decode cc pc = .ok (.iinc 12 z, 3)) (hz : Int32.ofInt z = nI c) (hc : ¬ 12 = M.c2 + 1) (kk : V E cc own M Po Px X h k n (pc + 3) (o0 :: o1 :: o2 :: o3 :: o4 :: o5 :: o6 :: o7 :: o8 :: o9 :: o10 :: o11 :: some (.int (nI (x + c))) :: r) st) : V E cc own M Po Px X h k n pc (o0 :: o1 :: o2 :: o3 :: o4 :: o5 :: o6 :: o7 :: o8 :: o9 :: o10 :: o11 :: some (.int (nI x)) :: r) st := g_iinc12 _ d (by rw [hz, nI_add]) hc kk
theorem g_ldcN {i : Nat} {v : Int32} (c : Nat) (hv : Cond.constant own i v ∈ lw_all) (e : v = nI c) (d : decode cc pc = .ok (.ldc i, 2)) (kk : V E cc own M Po Px X h k n (pc + 2) ls (.int (nI c) :: st)) : V E cc own M Po Px X h k n pc ls st := g_ldc v d hv (by rw [e]; exact kk)
theorem g_iincM0 {r : List (Option Value)} {x : Nat} {z : Int} (c : Nat) (d : decode cc pc = .ok (.iinc 0 z, 3)) (hz : Int32.ofInt z = -nI c) (hx : c ≤ x) (hc : ¬ 0 = M.c2 + 1) (kk : V E cc own M Po Px X h k n (pc + 3) (some (.int (nI (x - c))) :: r) st) : V E cc own M Po Px X h k n pc (some (.int (nI x)) :: r) st := g_iinc0 _ d (by rw [hz, ← Int32.sub_eq_add_neg, pk_sub hx]) hc kk
theorem g_iincM1 {o0 : Option Value} {r : List (Option Value)} {x : Nat} {z : Int} (c : Nat) (d : decode cc pc = .ok (.iinc 1 z, 3)) (hz : Int32.ofInt z = -nI c) (hx : c ≤ x) (hc : ¬ 1 = M.c2 + 1) (kk : V E cc own M Po Px X h k n (pc + 3) (o0 :: some (.int (nI (x - c))) :: r) st) : V E cc own M Po Px X h k n pc (o0 :: some (.int (nI x)) :: r) st := g_iinc1 _ d (by rw [hz, ← Int32.sub_eq_add_neg, pk_sub hx]) hc kk
theorem g_iincM2 {o0 o1 : Option Value} {r : List (Option Value)} {x : Nat} {z : Int} (c : Nat) (d : decode cc pc = .ok (.iinc 2 z, 3)) (hz : Int32.ofInt z = -nI c) (hx : c ≤ x) (hc : ¬ 2 = M.c2 + 1) (kk : V E cc own M Po Px X h k n (pc + 3) (o0 :: o1 :: some (.int (nI (x - c))) :: r) st) : V E cc own M Po Px X h k n pc (o0 :: o1 :: some (.int (nI x)) :: r) st := g_iinc2 _ d (by rw [hz, ← Int32.sub_eq_add_neg, pk_sub hx]) hc kk
theorem g_iincM3 {o0 o1 o2 : Option Value} {r : List (Option Value)} {x : Nat} {z : Int} (c : Nat) (d : decode cc pc = .ok (.iinc 3 z, 3)) (hz : Int32.ofInt z = -nI c) (hx : c ≤ x) (hc : ¬ 3 = M.c2 + 1) (kk : V E cc own M Po Px X h k n (pc + 3) (o0 :: o1 :: o2 :: some (.int (nI (x - c))) :: r) st) : V E cc own M Po Px X h k n pc (o0 :: o1 :: o2 :: some (.int (nI x)) :: r) st := g_iinc3 _ d (by rw [hz, ← Int32.sub_eq_add_neg, pk_sub hx]) hc kk
theorem g_iincM4 {o0 o1 o2 o3 : Option Value} {r : List (Option Value)} {x : Nat} {z : Int} (c : Nat) (d : decode cc pc = .ok (.iinc 4 z, 3)) (hz : Int32.ofInt z = -nI c) (hx : c ≤ x) (hc : ¬ 4 = M.c2 + 1) (kk : V E cc own M Po Px X h k n (pc + 3) (o0 :: o1 :: o2 :: o3 :: some (.int (nI (x - c))) :: r) st) : V E cc own M Po Px X h k n pc (o0 :: o1 :: o2 :: o3 :: some (.int (nI x)) :: r) st := g_iinc4 _ d (by rw [hz, ← Int32.sub_eq_add_neg, pk_sub hx]) hc kk
theorem g_iincM5 {o0 o1 o2 o3 o4 : Option Value} {r : List (Option Value)} {x : Nat} {z : Int} (c : Nat) (d : decode cc pc = .ok (.iinc 5 z, 3)) (hz : Int32.ofInt z = -nI c) (hx : c ≤ x) (hc : ¬ 5 = M.c2 + 1) (kk : V E cc own M Po Px X h k n (pc + 3) (o0 :: o1 :: o2 :: o3 :: o4 :: some (.int (nI (x - c))) :: r) st) : V E cc own M Po Px X h k n pc (o0 :: o1 :: o2 :: o3 :: o4 :: some (.int (nI x)) :: r) st := g_iinc5 _ d (by rw [hz, ← Int32.sub_eq_add_neg, pk_sub hx]) hc kk
theorem g_iincM6 {o0 o1 o2 o3 o4 o5 : Option Value} {r : List (Option Value)} {x : Nat} {z : Int} (c : Nat) (d : decode cc pc = .ok (.iinc 6 z, 3)) (hz : Int32.ofInt z = -nI c) (hx : c ≤ x) (hc : ¬ 6 = M.c2 + 1) (kk : V E cc own M Po Px X h k n (pc + 3) (o0 :: o1 :: o2 :: o3 :: o4 :: o5 :: some (.int (nI (x - c))) :: r) st) : V E cc own M Po Px X h k n pc (o0 :: o1 :: o2 :: o3 :: o4 :: o5 :: some (.int (nI x)) :: r) st := g_iinc6 _ d (by rw [hz, ← Int32.sub_eq_add_neg, pk_sub hx]) hc kk
theorem g_iincM7 {o0 o1 o2 o3 o4 o5 o6 : Option Value} {r : List (Option Value)} {x : Nat} {z : Int} (c : Nat) (d : decode cc pc = .ok (.iinc 7 z, 3)) (hz : Int32.ofInt z = -nI c) (hx : c ≤ x) (hc : ¬ 7 = M.c2 + 1) (kk : V E cc own M Po Px X h k n (pc + 3) (o0 :: o1 :: o2 :: o3 :: o4 :: o5 :: o6 :: some (.int (nI (x - c))) :: r) st) : V E cc own M Po Px X h k n pc (o0 :: o1 :: o2 :: o3 :: o4 :: o5 :: o6 :: some (.int (nI x)) :: r) st := g_iinc7 _ d (by rw [hz, ← Int32.sub_eq_add_neg, pk_sub hx]) hc kk
theorem g_iincM8 {o0 o1 o2 o3 o4 o5 o6 o7 : Option Value} {r : List (Option Value)} {x : Nat} {z : Int} (c : Nat) (d : decode cc pc = .ok (.iinc 8 z, 3)) (hz : Int32.ofInt z = -nI c) (hx : c ≤ x) (hc : ¬ 8 = M.c2 + 1) (kk : V E cc own M Po Px X h k n (pc + 3) (o0 :: o1 :: o2 :: o3 :: o4 :: o5 :: o6 :: o7 :: some (.int (nI (x - c))) :: r) st) : V E cc own M Po Px X h k n pc (o0 :: o1 :: o2 :: o3 :: o4 :: o5 :: o6 :: o7 :: some (.int (nI x)) :: r) st := g_iinc8 _ d (by rw [hz, ← Int32.sub_eq_add_neg, pk_sub hx]) hc kk
theorem g_iincM9 {o0 o1 o2 o3 o4 o5 o6 o7 o8 : Option Value} {r : List (Option Value)} {x : Nat} {z : Int} (c : Nat) (d : decode cc pc = .ok (.iinc 9 z, 3)) (hz : Int32.ofInt z = -nI c) (hx : c ≤ x) (hc : ¬ 9 = M.c2 + 1) (kk : V E cc own M Po Px X h k n (pc + 3) (o0 :: o1 :: o2 :: o3 :: o4 :: o5 :: o6 :: o7 :: o8 :: some (.int (nI (x - c))) :: r) st) : V E cc own M Po Px X h k n pc (o0 :: o1 :: o2 :: o3 :: o4 :: o5 :: o6 :: o7 :: o8 :: some (.int (nI x)) :: r) st := g_iinc9 _ d (by rw [hz, ← Int32.sub_eq_add_neg, pk_sub hx]) hc kk
theorem g_iincM10 {o0 o1 o2 o3 o4 o5 o6 o7 o8 o9 : Option Value} {r : List (Option Value)} {x : Nat} {z : Int} (c : Nat) (d : decode cc pc = .ok (.iinc 10 z, 3)) (hz : Int32.ofInt z = -nI c) (hx : c ≤ x) (hc : ¬ 10 = M.c2 + 1) (kk : V E cc own M Po Px X h k n (pc + 3) (o0 :: o1 :: o2 :: o3 :: o4 :: o5 :: o6 :: o7 :: o8 :: o9 :: some (.int (nI (x - c))) :: r) st) : V E cc own M Po Px X h k n pc (o0 :: o1 :: o2 :: o3 :: o4 :: o5 :: o6 :: o7 :: o8 :: o9 :: some (.int (nI x)) :: r) st := g_iinc10 _ d (by rw [hz, ← Int32.sub_eq_add_neg, pk_sub hx]) hc kk
theorem g_iincM11 {o0 o1 o2 o3 o4 o5 o6 o7 o8 o9 o10 : Option Value} {r : List (Option Value)} {x : Nat} {z : Int} (c : Nat) (d : decode cc pc = .ok (.iinc 11 z, 3)) (hz : Int32.ofInt z = -nI c) (hx : c ≤ x) (hc : ¬ 11 = M.c2 + 1) (kk : V E cc own M Po Px X h k n (pc + 3) (o0 :: o1 :: o2 :: o3 :: o4 :: o5 :: o6 :: o7 :: o8 :: o9 :: o10 :: some (.int (nI (x - c))) :: r) st) : V E cc own M Po Px X h k n pc (o0 :: o1 :: o2 :: o3 :: o4 :: o5 :: o6 :: o7 :: o8 :: o9 :: o10 :: some (.int (nI x)) :: r) st := g_iinc11 _ d (by rw [hz, ← Int32.sub_eq_add_neg, pk_sub hx]) hc kk
theorem g_iincM12 {o0 o1 o2 o3 o4 o5 o6 o7 o8 o9 o10 o11 : Option Value} {r : List (Option Value)} {x : Nat} {z : Int} (c : Nat) (d : decode cc pc = .ok (.iinc 12 z, 3)) (hz : Int32.ofInt z = -nI c) (hx : c ≤ x) (hc : ¬ 12 = M.c2 + 1) (kk : V E cc own M Po Px X h k n (pc + 3) (o0 :: o1 :: o2 :: o3 :: o4 :: o5 :: o6 :: o7 :: o8 :: o9 :: o10 :: o11 :: some (.int (nI (x - c))) :: r) st) : V E cc own M Po Px X h k n pc (o0 :: o1 :: o2 :: o3 :: o4 :: o5 :: o6 :: o7 :: o8 :: o9 :: o10 :: o11 :: some (.int (nI x)) :: r) st := g_iinc12 _ d (by rw [hz, ← Int32.sub_eq_add_neg, pk_sub hx]) hc kk
theorem cat_rf (r : Option Nat) : (va_rf r).category = 1 := by cases r <;> rfl
theorem nar_zb {q : Nat} (h : q < 2) : narrow .boolean (.int (nI q)) = .int (nI q) := by
  rcases (show q = 0 ∨ q = 1 by omega) with rfl | rfl <;> rfl
theorem nI_m1 {a b c : Nat} (h : b ≤ a + c) : nI a - nI b + nI c = nI (a + c - b) := by
  rw [← pk_sub h, ← nI_add]
  apply Int32.toBitVec_inj.mp
  show BitVec.ofNat 32 a - BitVec.ofNat 32 b + BitVec.ofNat 32 c = BitVec.ofNat 32 a + BitVec.ofNat 32 c - BitVec.ofNat 32 b
  simp only [BitVec.sub_eq_add_neg]
  rw [BitVec.add_assoc, BitVec.add_assoc, BitVec.add_comm (-_)]

def noX : String → Nat → AH → Prop := fun _ _ _ => False
abbrev pI (P : Int32 → AH → Prop) : Option Value → AH → Prop := fun v h => ∃ r, v = some (.int r) ∧ P r h
abbrev pN (P : Nat → AH → Prop) : Option Value → AH → Prop := fun v h => ∃ r, v = some (.int (nI r)) ∧ P r h
abbrev pL (P : Int64 → AH → Prop) : Option Value → AH → Prop := fun v h => ∃ r, v = some (.long r) ∧ P r h
abbrev pV (P : AH → Prop) : Option Value → AH → Prop := fun v h => v = none ∧ P h
abbrev pR (P : Nat → AH → Prop) : Option Value → AH → Prop := fun v h => ∃ r, v = some (.ref r) ∧ P r h
abbrev pQ (P : Option Nat → AH → Prop) : Option Value → AH → Prop := fun v h => ∃ r, v = some (va_rf r) ∧ P r h
theorem g_tail {mc ms : Nat} {H : Heap} {locs : List Loc} {la : Array Slot} {st0 : List Value} {a : Array Value} {Po' : Option Value → AH → Prop} {Px' : String → Nat → AH → Prop} (O : gOk E cc own M X) (hS : va_S (gA E) X.s.heap H locs) (hl : lv_has la M.nL (gL M.c2 0 ls)) (hL : ls.length = M.nL) (hr : vx_Run X.p E.l X.e M.rm X.s X.m X.args X.below X.meth X.c H locs k n mc ms (F0 X.m pc la st0) st (gQc E Po' a) (gXC E Px') (gA E)) (kx : ∀ (C : String) (q : Nat) (h' : AH), Px' C q h' → VX E cc own M Po Px X h' (k + mc) (n + ms) pc ls C q) (kk : ∀ (v : Option Value) (h' : AH), Po' v h' → V E cc own M Po Px X h' (k + mc) (n + ms) (pc + 3) ls (v.toList ++ st)) : W X.p E.l X.e M.rm X.s X.m X.args X.below X.meth X.c H locs k n (vx_MQ X.below (gQc E Po) (gXC E Px) X.args X.s M.rm.cells M.rm.slots (gA E)) (F0 X.m pc la st0) := by
  intro T hT X0
  rcases hr T hT X0 with ⟨v, st₀, t, T', L, h0, X', hL', e1, e2, ⟨⟨v', h', hv, hp, hI'⟩, hF⟩, hst⟩ | ⟨q, st₀, t, T', L, C, ce, h0, X', hL', e1, e2, ⟨⟨h', hp, hI'⟩, hF⟩, hce, hcv, hcl, hst⟩
  · cases hv
    obtain ⟨-, -, hS2⟩ := vx_keep h0 e1 hS (fun _ _ z => z) (fun _ z => z) hL' hF
    obtain ⟨t2, a1, b1⟩ := kk v h' hp O T'.heap (locs ++ L) la (by rw [e1]; exact hI') hS2 hl hL T' rfl X'
    exact ⟨t2, hst t2 a1, b1⟩
  · obtain ⟨-, -, hS2⟩ := vx_keep h0 e1 hS (fun _ _ z => z) (fun _ z => z) hL' hF
    obtain ⟨t2, a1, b1⟩ := kx C q h' hp O T'.heap (locs ++ L) la st ce (by rw [e1]; exact hI') hS2 hl hL (by rw [e1]; exact hce) hcv hcl T' rfl X'
    exact ⟨t2, hst.trans a1, b1⟩
theorem g_preS {H : Heap} {av : List Value} (O : gOk E cc own M X) (hI : gI E h H) : PreS X.s H (va_Pc av (fun U => E.S0.WarmedH U.vm ∧ gI E h U.heap)) av := ⟨fun _ _ _ _ q => q, fun U hU hW => ⟨rfl, State.WarmedH.trans O.hW hW, by rw [hU]; exact hI⟩⟩
theorem g_recv {H : Heap} {a t ci : Nat} {fs : List Value} {q : vw_C} (O : gOk E cc own M X) (hI : gI E h H) (ha : h a = some (t, gO ci fs)) (hc : gCl[ci]? = some q) : ∃ cell : Cell, H[a]? = some cell ∧ cell.vm.isStatics = false ∧ X.s.vm.findClass q.1 = some cell.cls := by
  obtain ⟨h0, ws, hP, hD, hm⟩ := hI
  obtain ⟨q0, hq⟩ := g_in (E := E) (H := H) hm ha
  exact va_recv O.hK hP hc hq
def gDs (y : MethodName) (n : Nat) : Prop := y.cls ≠ "java/lang/invoke/MethodHandle" ∧ y.cls ≠ "java/lang/invoke/VarHandle" ∧ (parseMethodDescriptor y.desc).map (fun d => d.parameters.length) = some n
/-- what a method is to its callers: static, by the receiver, a constructor -/
def gCs (cc' : ByteArray) (M' : GM) (n : Nat) : Prop := Cond.static M'.y ∈ lw_all ∧ Cond.initialized M'.y.cls ∈ lw_all ∧ Cond.code M'.y cc' M'.nL M'.ret ∈ lw_all ∧ gDs M'.y n ∧ M'.hh = []
def gCv (cc' : ByteArray) (M' : GM) (n : Nat) : Prop := Cond.instanceMethod M'.y ∈ lw_all ∧ Cond.selects M'.y.cls M'.y M'.y ∈ lw_all ∧ Cond.initialized M'.y.cls ∈ lw_all ∧ Cond.code M'.y cc' M'.nL M'.ret ∈ lw_all ∧ gDs M'.y n ∧ M'.hh = []
def gCi (cc' : ByteArray) (M' : GM) (n : Nat) : Prop := Cond.instanceMethod M'.y ∈ lw_all ∧ Cond.initialized M'.y.cls ∈ lw_all ∧ Cond.code M'.y cc' M'.nL none ∈ lw_all ∧ gDs M'.y n ∧ M'.hh = [] ∧ M'.y.name = "<init>" ∧ M'.ret = none
theorem gWs_0 {cc' : ByteArray} {M' : GM} (h0 : M'.hh = []) : gWs cc' M' = ws_ M'.y cc' M'.nL M'.ret := by
  unfold gWs gWd
  rw [h0]
theorem g_callS {index : Nat} {cc' : ByteArray} {M' : GM} {av st0 : List Value} {Po' : Option Value → AH → Prop} {Px' : String → Nat → AH → Prop} (hc : Ct E cc' M' av h Po' Px') (hk : gCs cc' M' av.length) (hlk : Cond.methodLink own index M'.y ∈ lw_all) (hR : M'.rm.frames + 1 ≤ M.rm.frames ∧ 8 + (M'.nL + 11) + M'.rm.locals ≤ M.rm.locals) (hf : k + M'.rm.cells ≤ M.rm.cells ∧ n + M'.rm.slots ≤ M.rm.slots) (hst : st0 = av.reverse ++ st) (hcat : (st.map fun v => v.category).sum ≤ 8) (d : decode cc pc = .ok (.invokestatic index, 3)) (kx : ∀ (C : String) (q : Nat) (h' : AH), Px' C q h' → VX E cc own M Po Px X h' (k + M'.rm.cells) (n + M'.rm.slots) pc ls C q) (kk : ∀ (v : Option Value) (h' : AH), Po' v h' → V E cc own M Po Px X h' (k + M'.rm.cells) (n + M'.rm.slots) (pc + 3) ls (v.toList ++ st)) : V E cc own M Po Px X h k n pc ls st0 := by
  intro O H locs la hI hS hl hL
  obtain ⟨k1, k2, k3, k4, k5⟩ := hk
  have hM := hc O.hE
  rw [gWs_0 k5] at hM
  exact g_tail O hS hl hL (vx_runS (index := index) ⟨O.hx, O.hb, O.hml, O.hown, O.hts⟩ hM (va_cwS av.length O.hts (lw_S hlk k1 k2 k3) rfl rfl rfl k4 hR) (g_preS O hI) rfl rfl hl.1 hst (lv_room hcat) d hf) kx kk
theorem g_callV {index a t ci : Nat} {fs : List Value} {q : vw_C} {cc' : ByteArray} {M' : GM} {av st0 : List Value} {Po' : Option Value → AH → Prop} {Px' : String → Nat → AH → Prop} (hc : Ct E cc' M' (.ref a :: av) h Po' Px') (hk : gCv cc' M' av.length) (hlk : Cond.methodLink own index M'.y ∈ lw_all) (ha : h a = some (t, gO ci fs)) (hcl : gCl[ci]? = some q) (hq : q.1 = M'.y.cls) (hR : M'.rm.frames + 1 ≤ M.rm.frames ∧ 8 + (M'.nL + 11) + M'.rm.locals ≤ M.rm.locals) (hf : k + M'.rm.cells ≤ M.rm.cells ∧ n + M'.rm.slots ≤ M.rm.slots) (hst : st0 = av.reverse ++ .ref a :: st) (hcat : (st.map fun v => v.category).sum ≤ 8) (d : decode cc pc = .ok (.invokevirtual index, 3)) (kx : ∀ (C : String) (q : Nat) (h' : AH), Px' C q h' → VX E cc own M Po Px X h' (k + M'.rm.cells) (n + M'.rm.slots) pc ls C q) (kk : ∀ (v : Option Value) (h' : AH), Po' v h' → V E cc own M Po Px X h' (k + M'.rm.cells) (n + M'.rm.slots) (pc + 3) ls (v.toList ++ st)) : V E cc own M Po Px X h k n pc ls st0 := by
  intro O H locs la hI hS hl hL
  obtain ⟨k1, k2, k3, k4, k5, k6⟩ := hk
  have hM := hc O.hE
  rw [gWs_0 k6] at hM
  have hrc := g_recv O hI ha hcl
  rw [hq] at hrc
  exact g_tail O hS hl hL (vx_runV (index := index) (C := M'.y.cls) ⟨O.hx, O.hb, O.hml, O.hown, O.hts⟩ hM (cwV av.length O.hts (lw_V hlk k1 k2 k3 k4) rfl rfl rfl ⟨rfl, k5⟩ hR) ⟨(g_preS O hI).1, hrc, (g_preS (av := .ref a :: av) O hI).2⟩ rfl rfl hl.1 hst (lv_room hcat) d hf) kx kk
theorem g_callI {index a : Nat} {cc' : ByteArray} {M' : GM} {av st0 : List Value} {Po' : Option Value → AH → Prop} {Px' : String → Nat → AH → Prop} (hc : Ct E cc' M' (.ref a :: av) h Po' Px') (hk : gCi cc' M' av.length) (hlk : Cond.methodLink own index M'.y ∈ lw_all) (hR : M'.rm.frames + 1 ≤ M.rm.frames ∧ 8 + (M'.nL + 11) + M'.rm.locals ≤ M.rm.locals) (hf : k + M'.rm.cells ≤ M.rm.cells ∧ n + M'.rm.slots ≤ M.rm.slots) (hst : st0 = av.reverse ++ .ref a :: st) (hcat : (st.map fun v => v.category).sum ≤ 8) (d : decode cc pc = .ok (.invokespecial index, 3)) (kx : ∀ (C : String) (q : Nat) (h' : AH), Px' C q h' → VX E cc own M Po Px X h' (k + M'.rm.cells) (n + M'.rm.slots) pc ls C q) (kk : ∀ (v : Option Value) (h' : AH), Po' v h' → V E cc own M Po Px X h' (k + M'.rm.cells) (n + M'.rm.slots) (pc + 3) ls (v.toList ++ st)) : V E cc own M Po Px X h k n pc ls st0 := by
  intro O H locs la hI hS hl hL
  obtain ⟨k1, k2, k3, k4, k5, k6, k7⟩ := hk
  have hM := hc O.hE
  rw [gWs_0 k5, k7] at hM
  exact g_tail O hS hl hL (vx_runI (index := index) ⟨O.hx, O.hb, O.hml, O.hown, O.hts⟩ hM (cwI av.length O.hts (lw_meth k3) rfl rfl rfl (O.hts _ k2) (O.hts _ hlk) (O.hts _ k1) k6 k4 hR) (g_preS O hI) rfl rfl hl.1 hst (lv_room hcat) d hf) kx kk

theorem g_S0i0 {index : Nat} {cc' : ByteArray} {M' : GM} {P : Int32 → AH → Prop} (hc : Ct E cc' M' [] h (pI (fun r h' => P r h')) noX) (hk : gCs cc' M' 0) (hlk : Cond.methodLink own index M'.y ∈ lw_all) (hR : M'.rm.frames + 1 ≤ M.rm.frames ∧ 8 + (M'.nL + 11) + M'.rm.locals ≤ M.rm.locals) (hz : M'.rm.cells = 0 ∧ M'.rm.slots = 0) (hf : k ≤ M.rm.cells ∧ n ≤ M.rm.slots) (hcat : (st.map fun v => v.category).sum ≤ 8) (d : decode cc pc = .ok (.invokestatic index, 3)) (kk : ∀ (r : Int32) (h' : AH), P r h' → V E cc own M Po Px X h' k n (pc + 3) ls (.int r :: st)) : V E cc own M Po Px X h k n pc ls (st) := by
  obtain ⟨z1, z2⟩ := hz
  refine g_callS (av := []) hc hk hlk hR (by rw [z1, z2]; exact hf) rfl hcat d (fun _ _ _ z => z.elim) (fun v h' z => by
    obtain ⟨r, rfl, p⟩ := z
    rw [z1, z2]
    exact kk r h' p)
theorem g_S0i0x {index : Nat} {cc' : ByteArray} {M' : GM} {P : Int32 → AH → Prop} {Px' : String → Nat → AH → Prop} (hc : Ct E cc' M' [] h (pI (fun r h' => P r h')) Px') (hk : gCs cc' M' 0) (hlk : Cond.methodLink own index M'.y ∈ lw_all) (hR : M'.rm.frames + 1 ≤ M.rm.frames ∧ 8 + (M'.nL + 11) + M'.rm.locals ≤ M.rm.locals) (hz : M'.rm.cells = 0 ∧ M'.rm.slots = 0) (hf : k ≤ M.rm.cells ∧ n ≤ M.rm.slots) (hcat : (st.map fun v => v.category).sum ≤ 8) (d : decode cc pc = .ok (.invokestatic index, 3)) (kx : ∀ (C : String) (q : Nat) (h' : AH), Px' C q h' → VX E cc own M Po Px X h' k n pc ls C q) (kk : ∀ (r : Int32) (h' : AH), P r h' → V E cc own M Po Px X h' k n (pc + 3) ls (.int r :: st)) : V E cc own M Po Px X h k n pc ls (st) := by
  obtain ⟨z1, z2⟩ := hz
  refine g_callS (av := []) hc hk hlk hR (by rw [z1, z2]; exact hf) rfl hcat d (fun C q h' z => by rw [z1, z2]; exact kx C q h' z) (fun v h' z => by
    obtain ⟨r, rfl, p⟩ := z
    rw [z1, z2]
    exact kk r h' p)
theorem g_S0i {index : Nat} {cc' : ByteArray} {M' : GM} {P : Int32 → AH → Prop} (hc : Ct E cc' M' [] h (pI (fun r h' => P r h')) noX) (hk : gCs cc' M' 0) (hlk : Cond.methodLink own index M'.y ∈ lw_all) (hR : M'.rm.frames + 1 ≤ M.rm.frames ∧ 8 + (M'.nL + 11) + M'.rm.locals ≤ M.rm.locals) (hf : k + M'.rm.cells ≤ M.rm.cells ∧ n + M'.rm.slots ≤ M.rm.slots) (hcat : (st.map fun v => v.category).sum ≤ 8) (d : decode cc pc = .ok (.invokestatic index, 3)) (kk : ∀ (r : Int32) (h' : AH), P r h' → V E cc own M Po Px X h' (k + M'.rm.cells) (n + M'.rm.slots) (pc + 3) ls (.int r :: st)) : V E cc own M Po Px X h k n pc ls (st) := g_callS (av := []) hc hk hlk hR hf rfl hcat d (fun _ _ _ z => z.elim) (fun v h' z => by
    obtain ⟨r, rfl, p⟩ := z
    exact kk r h' p)
theorem g_S0ix {index : Nat} {cc' : ByteArray} {M' : GM} {P : Int32 → AH → Prop} {Px' : String → Nat → AH → Prop} (hc : Ct E cc' M' [] h (pI (fun r h' => P r h')) Px') (hk : gCs cc' M' 0) (hlk : Cond.methodLink own index M'.y ∈ lw_all) (hR : M'.rm.frames + 1 ≤ M.rm.frames ∧ 8 + (M'.nL + 11) + M'.rm.locals ≤ M.rm.locals) (hf : k + M'.rm.cells ≤ M.rm.cells ∧ n + M'.rm.slots ≤ M.rm.slots) (hcat : (st.map fun v => v.category).sum ≤ 8) (d : decode cc pc = .ok (.invokestatic index, 3)) (kx : ∀ (C : String) (q : Nat) (h' : AH), Px' C q h' → VX E cc own M Po Px X h' (k + M'.rm.cells) (n + M'.rm.slots) pc ls C q) (kk : ∀ (r : Int32) (h' : AH), P r h' → V E cc own M Po Px X h' (k + M'.rm.cells) (n + M'.rm.slots) (pc + 3) ls (.int r :: st)) : V E cc own M Po Px X h k n pc ls (st) := g_callS (av := []) hc hk hlk hR hf rfl hcat d kx (fun v h' z => by
    obtain ⟨r, rfl, p⟩ := z
    exact kk r h' p)
theorem g_S0n0 {index : Nat} {cc' : ByteArray} {M' : GM} {P : Nat → AH → Prop} (hc : Ct E cc' M' [] h (pN (fun r h' => P r h')) noX) (hk : gCs cc' M' 0) (hlk : Cond.methodLink own index M'.y ∈ lw_all) (hR : M'.rm.frames + 1 ≤ M.rm.frames ∧ 8 + (M'.nL + 11) + M'.rm.locals ≤ M.rm.locals) (hz : M'.rm.cells = 0 ∧ M'.rm.slots = 0) (hf : k ≤ M.rm.cells ∧ n ≤ M.rm.slots) (hcat : (st.map fun v => v.category).sum ≤ 8) (d : decode cc pc = .ok (.invokestatic index, 3)) (kk : ∀ (r : Nat) (h' : AH), P r h' → V E cc own M Po Px X h' k n (pc + 3) ls (.int (nI r) :: st)) : V E cc own M Po Px X h k n pc ls (st) := by
  obtain ⟨z1, z2⟩ := hz
  refine g_callS (av := []) hc hk hlk hR (by rw [z1, z2]; exact hf) rfl hcat d (fun _ _ _ z => z.elim) (fun v h' z => by
    obtain ⟨r, rfl, p⟩ := z
    rw [z1, z2]
    exact kk r h' p)
theorem g_S0n0x {index : Nat} {cc' : ByteArray} {M' : GM} {P : Nat → AH → Prop} {Px' : String → Nat → AH → Prop} (hc : Ct E cc' M' [] h (pN (fun r h' => P r h')) Px') (hk : gCs cc' M' 0) (hlk : Cond.methodLink own index M'.y ∈ lw_all) (hR : M'.rm.frames + 1 ≤ M.rm.frames ∧ 8 + (M'.nL + 11) + M'.rm.locals ≤ M.rm.locals) (hz : M'.rm.cells = 0 ∧ M'.rm.slots = 0) (hf : k ≤ M.rm.cells ∧ n ≤ M.rm.slots) (hcat : (st.map fun v => v.category).sum ≤ 8) (d : decode cc pc = .ok (.invokestatic index, 3)) (kx : ∀ (C : String) (q : Nat) (h' : AH), Px' C q h' → VX E cc own M Po Px X h' k n pc ls C q) (kk : ∀ (r : Nat) (h' : AH), P r h' → V E cc own M Po Px X h' k n (pc + 3) ls (.int (nI r) :: st)) : V E cc own M Po Px X h k n pc ls (st) := by
  obtain ⟨z1, z2⟩ := hz
  refine g_callS (av := []) hc hk hlk hR (by rw [z1, z2]; exact hf) rfl hcat d (fun C q h' z => by rw [z1, z2]; exact kx C q h' z) (fun v h' z => by
    obtain ⟨r, rfl, p⟩ := z
    rw [z1, z2]
    exact kk r h' p)
theorem g_S0n {index : Nat} {cc' : ByteArray} {M' : GM} {P : Nat → AH → Prop} (hc : Ct E cc' M' [] h (pN (fun r h' => P r h')) noX) (hk : gCs cc' M' 0) (hlk : Cond.methodLink own index M'.y ∈ lw_all) (hR : M'.rm.frames + 1 ≤ M.rm.frames ∧ 8 + (M'.nL + 11) + M'.rm.locals ≤ M.rm.locals) (hf : k + M'.rm.cells ≤ M.rm.cells ∧ n + M'.rm.slots ≤ M.rm.slots) (hcat : (st.map fun v => v.category).sum ≤ 8) (d : decode cc pc = .ok (.invokestatic index, 3)) (kk : ∀ (r : Nat) (h' : AH), P r h' → V E cc own M Po Px X h' (k + M'.rm.cells) (n + M'.rm.slots) (pc + 3) ls (.int (nI r) :: st)) : V E cc own M Po Px X h k n pc ls (st) := g_callS (av := []) hc hk hlk hR hf rfl hcat d (fun _ _ _ z => z.elim) (fun v h' z => by
    obtain ⟨r, rfl, p⟩ := z
    exact kk r h' p)
theorem g_S0nx {index : Nat} {cc' : ByteArray} {M' : GM} {P : Nat → AH → Prop} {Px' : String → Nat → AH → Prop} (hc : Ct E cc' M' [] h (pN (fun r h' => P r h')) Px') (hk : gCs cc' M' 0) (hlk : Cond.methodLink own index M'.y ∈ lw_all) (hR : M'.rm.frames + 1 ≤ M.rm.frames ∧ 8 + (M'.nL + 11) + M'.rm.locals ≤ M.rm.locals) (hf : k + M'.rm.cells ≤ M.rm.cells ∧ n + M'.rm.slots ≤ M.rm.slots) (hcat : (st.map fun v => v.category).sum ≤ 8) (d : decode cc pc = .ok (.invokestatic index, 3)) (kx : ∀ (C : String) (q : Nat) (h' : AH), Px' C q h' → VX E cc own M Po Px X h' (k + M'.rm.cells) (n + M'.rm.slots) pc ls C q) (kk : ∀ (r : Nat) (h' : AH), P r h' → V E cc own M Po Px X h' (k + M'.rm.cells) (n + M'.rm.slots) (pc + 3) ls (.int (nI r) :: st)) : V E cc own M Po Px X h k n pc ls (st) := g_callS (av := []) hc hk hlk hR hf rfl hcat d kx (fun v h' z => by
    obtain ⟨r, rfl, p⟩ := z
    exact kk r h' p)
theorem g_S0l0 {index : Nat} {cc' : ByteArray} {M' : GM} {P : Int64 → AH → Prop} (hc : Ct E cc' M' [] h (pL (fun r h' => P r h')) noX) (hk : gCs cc' M' 0) (hlk : Cond.methodLink own index M'.y ∈ lw_all) (hR : M'.rm.frames + 1 ≤ M.rm.frames ∧ 8 + (M'.nL + 11) + M'.rm.locals ≤ M.rm.locals) (hz : M'.rm.cells = 0 ∧ M'.rm.slots = 0) (hf : k ≤ M.rm.cells ∧ n ≤ M.rm.slots) (hcat : (st.map fun v => v.category).sum ≤ 8) (d : decode cc pc = .ok (.invokestatic index, 3)) (kk : ∀ (r : Int64) (h' : AH), P r h' → V E cc own M Po Px X h' k n (pc + 3) ls (.long r :: st)) : V E cc own M Po Px X h k n pc ls (st) := by
  obtain ⟨z1, z2⟩ := hz
  refine g_callS (av := []) hc hk hlk hR (by rw [z1, z2]; exact hf) rfl hcat d (fun _ _ _ z => z.elim) (fun v h' z => by
    obtain ⟨r, rfl, p⟩ := z
    rw [z1, z2]
    exact kk r h' p)
theorem g_S0l0x {index : Nat} {cc' : ByteArray} {M' : GM} {P : Int64 → AH → Prop} {Px' : String → Nat → AH → Prop} (hc : Ct E cc' M' [] h (pL (fun r h' => P r h')) Px') (hk : gCs cc' M' 0) (hlk : Cond.methodLink own index M'.y ∈ lw_all) (hR : M'.rm.frames + 1 ≤ M.rm.frames ∧ 8 + (M'.nL + 11) + M'.rm.locals ≤ M.rm.locals) (hz : M'.rm.cells = 0 ∧ M'.rm.slots = 0) (hf : k ≤ M.rm.cells ∧ n ≤ M.rm.slots) (hcat : (st.map fun v => v.category).sum ≤ 8) (d : decode cc pc = .ok (.invokestatic index, 3)) (kx : ∀ (C : String) (q : Nat) (h' : AH), Px' C q h' → VX E cc own M Po Px X h' k n pc ls C q) (kk : ∀ (r : Int64) (h' : AH), P r h' → V E cc own M Po Px X h' k n (pc + 3) ls (.long r :: st)) : V E cc own M Po Px X h k n pc ls (st) := by
  obtain ⟨z1, z2⟩ := hz
  refine g_callS (av := []) hc hk hlk hR (by rw [z1, z2]; exact hf) rfl hcat d (fun C q h' z => by rw [z1, z2]; exact kx C q h' z) (fun v h' z => by
    obtain ⟨r, rfl, p⟩ := z
    rw [z1, z2]
    exact kk r h' p)
theorem g_S0l {index : Nat} {cc' : ByteArray} {M' : GM} {P : Int64 → AH → Prop} (hc : Ct E cc' M' [] h (pL (fun r h' => P r h')) noX) (hk : gCs cc' M' 0) (hlk : Cond.methodLink own index M'.y ∈ lw_all) (hR : M'.rm.frames + 1 ≤ M.rm.frames ∧ 8 + (M'.nL + 11) + M'.rm.locals ≤ M.rm.locals) (hf : k + M'.rm.cells ≤ M.rm.cells ∧ n + M'.rm.slots ≤ M.rm.slots) (hcat : (st.map fun v => v.category).sum ≤ 8) (d : decode cc pc = .ok (.invokestatic index, 3)) (kk : ∀ (r : Int64) (h' : AH), P r h' → V E cc own M Po Px X h' (k + M'.rm.cells) (n + M'.rm.slots) (pc + 3) ls (.long r :: st)) : V E cc own M Po Px X h k n pc ls (st) := g_callS (av := []) hc hk hlk hR hf rfl hcat d (fun _ _ _ z => z.elim) (fun v h' z => by
    obtain ⟨r, rfl, p⟩ := z
    exact kk r h' p)
theorem g_S0lx {index : Nat} {cc' : ByteArray} {M' : GM} {P : Int64 → AH → Prop} {Px' : String → Nat → AH → Prop} (hc : Ct E cc' M' [] h (pL (fun r h' => P r h')) Px') (hk : gCs cc' M' 0) (hlk : Cond.methodLink own index M'.y ∈ lw_all) (hR : M'.rm.frames + 1 ≤ M.rm.frames ∧ 8 + (M'.nL + 11) + M'.rm.locals ≤ M.rm.locals) (hf : k + M'.rm.cells ≤ M.rm.cells ∧ n + M'.rm.slots ≤ M.rm.slots) (hcat : (st.map fun v => v.category).sum ≤ 8) (d : decode cc pc = .ok (.invokestatic index, 3)) (kx : ∀ (C : String) (q : Nat) (h' : AH), Px' C q h' → VX E cc own M Po Px X h' (k + M'.rm.cells) (n + M'.rm.slots) pc ls C q) (kk : ∀ (r : Int64) (h' : AH), P r h' → V E cc own M Po Px X h' (k + M'.rm.cells) (n + M'.rm.slots) (pc + 3) ls (.long r :: st)) : V E cc own M Po Px X h k n pc ls (st) := g_callS (av := []) hc hk hlk hR hf rfl hcat d kx (fun v h' z => by
    obtain ⟨r, rfl, p⟩ := z
    exact kk r h' p)
theorem g_S0r0 {index : Nat} {cc' : ByteArray} {M' : GM} {P : Nat → AH → Prop} (hc : Ct E cc' M' [] h (pR (fun r h' => P r h')) noX) (hk : gCs cc' M' 0) (hlk : Cond.methodLink own index M'.y ∈ lw_all) (hR : M'.rm.frames + 1 ≤ M.rm.frames ∧ 8 + (M'.nL + 11) + M'.rm.locals ≤ M.rm.locals) (hz : M'.rm.cells = 0 ∧ M'.rm.slots = 0) (hf : k ≤ M.rm.cells ∧ n ≤ M.rm.slots) (hcat : (st.map fun v => v.category).sum ≤ 8) (d : decode cc pc = .ok (.invokestatic index, 3)) (kk : ∀ (r : Nat) (h' : AH), P r h' → V E cc own M Po Px X h' k n (pc + 3) ls (.ref r :: st)) : V E cc own M Po Px X h k n pc ls (st) := by
  obtain ⟨z1, z2⟩ := hz
  refine g_callS (av := []) hc hk hlk hR (by rw [z1, z2]; exact hf) rfl hcat d (fun _ _ _ z => z.elim) (fun v h' z => by
    obtain ⟨r, rfl, p⟩ := z
    rw [z1, z2]
    exact kk r h' p)
theorem g_S0r0x {index : Nat} {cc' : ByteArray} {M' : GM} {P : Nat → AH → Prop} {Px' : String → Nat → AH → Prop} (hc : Ct E cc' M' [] h (pR (fun r h' => P r h')) Px') (hk : gCs cc' M' 0) (hlk : Cond.methodLink own index M'.y ∈ lw_all) (hR : M'.rm.frames + 1 ≤ M.rm.frames ∧ 8 + (M'.nL + 11) + M'.rm.locals ≤ M.rm.locals) (hz : M'.rm.cells = 0 ∧ M'.rm.slots = 0) (hf : k ≤ M.rm.cells ∧ n ≤ M.rm.slots) (hcat : (st.map fun v => v.category).sum ≤ 8) (d : decode cc pc = .ok (.invokestatic index, 3)) (kx : ∀ (C : String) (q : Nat) (h' : AH), Px' C q h' → VX E cc own M Po Px X h' k n pc ls C q) (kk : ∀ (r : Nat) (h' : AH), P r h' → V E cc own M Po Px X h' k n (pc + 3) ls (.ref r :: st)) : V E cc own M Po Px X h k n pc ls (st) := by
  obtain ⟨z1, z2⟩ := hz
  refine g_callS (av := []) hc hk hlk hR (by rw [z1, z2]; exact hf) rfl hcat d (fun C q h' z => by rw [z1, z2]; exact kx C q h' z) (fun v h' z => by
    obtain ⟨r, rfl, p⟩ := z
    rw [z1, z2]
    exact kk r h' p)
theorem g_S0r {index : Nat} {cc' : ByteArray} {M' : GM} {P : Nat → AH → Prop} (hc : Ct E cc' M' [] h (pR (fun r h' => P r h')) noX) (hk : gCs cc' M' 0) (hlk : Cond.methodLink own index M'.y ∈ lw_all) (hR : M'.rm.frames + 1 ≤ M.rm.frames ∧ 8 + (M'.nL + 11) + M'.rm.locals ≤ M.rm.locals) (hf : k + M'.rm.cells ≤ M.rm.cells ∧ n + M'.rm.slots ≤ M.rm.slots) (hcat : (st.map fun v => v.category).sum ≤ 8) (d : decode cc pc = .ok (.invokestatic index, 3)) (kk : ∀ (r : Nat) (h' : AH), P r h' → V E cc own M Po Px X h' (k + M'.rm.cells) (n + M'.rm.slots) (pc + 3) ls (.ref r :: st)) : V E cc own M Po Px X h k n pc ls (st) := g_callS (av := []) hc hk hlk hR hf rfl hcat d (fun _ _ _ z => z.elim) (fun v h' z => by
    obtain ⟨r, rfl, p⟩ := z
    exact kk r h' p)
theorem g_S0rx {index : Nat} {cc' : ByteArray} {M' : GM} {P : Nat → AH → Prop} {Px' : String → Nat → AH → Prop} (hc : Ct E cc' M' [] h (pR (fun r h' => P r h')) Px') (hk : gCs cc' M' 0) (hlk : Cond.methodLink own index M'.y ∈ lw_all) (hR : M'.rm.frames + 1 ≤ M.rm.frames ∧ 8 + (M'.nL + 11) + M'.rm.locals ≤ M.rm.locals) (hf : k + M'.rm.cells ≤ M.rm.cells ∧ n + M'.rm.slots ≤ M.rm.slots) (hcat : (st.map fun v => v.category).sum ≤ 8) (d : decode cc pc = .ok (.invokestatic index, 3)) (kx : ∀ (C : String) (q : Nat) (h' : AH), Px' C q h' → VX E cc own M Po Px X h' (k + M'.rm.cells) (n + M'.rm.slots) pc ls C q) (kk : ∀ (r : Nat) (h' : AH), P r h' → V E cc own M Po Px X h' (k + M'.rm.cells) (n + M'.rm.slots) (pc + 3) ls (.ref r :: st)) : V E cc own M Po Px X h k n pc ls (st) := g_callS (av := []) hc hk hlk hR hf rfl hcat d kx (fun v h' z => by
    obtain ⟨r, rfl, p⟩ := z
    exact kk r h' p)
theorem g_S0q0 {index : Nat} {cc' : ByteArray} {M' : GM} {P : Option Nat → AH → Prop} (hc : Ct E cc' M' [] h (pQ (fun r h' => P r h')) noX) (hk : gCs cc' M' 0) (hlk : Cond.methodLink own index M'.y ∈ lw_all) (hR : M'.rm.frames + 1 ≤ M.rm.frames ∧ 8 + (M'.nL + 11) + M'.rm.locals ≤ M.rm.locals) (hz : M'.rm.cells = 0 ∧ M'.rm.slots = 0) (hf : k ≤ M.rm.cells ∧ n ≤ M.rm.slots) (hcat : (st.map fun v => v.category).sum ≤ 8) (d : decode cc pc = .ok (.invokestatic index, 3)) (kk : ∀ (r : Option Nat) (h' : AH), P r h' → V E cc own M Po Px X h' k n (pc + 3) ls (va_rf r :: st)) : V E cc own M Po Px X h k n pc ls (st) := by
  obtain ⟨z1, z2⟩ := hz
  refine g_callS (av := []) hc hk hlk hR (by rw [z1, z2]; exact hf) rfl hcat d (fun _ _ _ z => z.elim) (fun v h' z => by
    obtain ⟨r, rfl, p⟩ := z
    rw [z1, z2]
    exact kk r h' p)
theorem g_S0q0x {index : Nat} {cc' : ByteArray} {M' : GM} {P : Option Nat → AH → Prop} {Px' : String → Nat → AH → Prop} (hc : Ct E cc' M' [] h (pQ (fun r h' => P r h')) Px') (hk : gCs cc' M' 0) (hlk : Cond.methodLink own index M'.y ∈ lw_all) (hR : M'.rm.frames + 1 ≤ M.rm.frames ∧ 8 + (M'.nL + 11) + M'.rm.locals ≤ M.rm.locals) (hz : M'.rm.cells = 0 ∧ M'.rm.slots = 0) (hf : k ≤ M.rm.cells ∧ n ≤ M.rm.slots) (hcat : (st.map fun v => v.category).sum ≤ 8) (d : decode cc pc = .ok (.invokestatic index, 3)) (kx : ∀ (C : String) (q : Nat) (h' : AH), Px' C q h' → VX E cc own M Po Px X h' k n pc ls C q) (kk : ∀ (r : Option Nat) (h' : AH), P r h' → V E cc own M Po Px X h' k n (pc + 3) ls (va_rf r :: st)) : V E cc own M Po Px X h k n pc ls (st) := by
  obtain ⟨z1, z2⟩ := hz
  refine g_callS (av := []) hc hk hlk hR (by rw [z1, z2]; exact hf) rfl hcat d (fun C q h' z => by rw [z1, z2]; exact kx C q h' z) (fun v h' z => by
    obtain ⟨r, rfl, p⟩ := z
    rw [z1, z2]
    exact kk r h' p)
theorem g_S0q {index : Nat} {cc' : ByteArray} {M' : GM} {P : Option Nat → AH → Prop} (hc : Ct E cc' M' [] h (pQ (fun r h' => P r h')) noX) (hk : gCs cc' M' 0) (hlk : Cond.methodLink own index M'.y ∈ lw_all) (hR : M'.rm.frames + 1 ≤ M.rm.frames ∧ 8 + (M'.nL + 11) + M'.rm.locals ≤ M.rm.locals) (hf : k + M'.rm.cells ≤ M.rm.cells ∧ n + M'.rm.slots ≤ M.rm.slots) (hcat : (st.map fun v => v.category).sum ≤ 8) (d : decode cc pc = .ok (.invokestatic index, 3)) (kk : ∀ (r : Option Nat) (h' : AH), P r h' → V E cc own M Po Px X h' (k + M'.rm.cells) (n + M'.rm.slots) (pc + 3) ls (va_rf r :: st)) : V E cc own M Po Px X h k n pc ls (st) := g_callS (av := []) hc hk hlk hR hf rfl hcat d (fun _ _ _ z => z.elim) (fun v h' z => by
    obtain ⟨r, rfl, p⟩ := z
    exact kk r h' p)
theorem g_S0qx {index : Nat} {cc' : ByteArray} {M' : GM} {P : Option Nat → AH → Prop} {Px' : String → Nat → AH → Prop} (hc : Ct E cc' M' [] h (pQ (fun r h' => P r h')) Px') (hk : gCs cc' M' 0) (hlk : Cond.methodLink own index M'.y ∈ lw_all) (hR : M'.rm.frames + 1 ≤ M.rm.frames ∧ 8 + (M'.nL + 11) + M'.rm.locals ≤ M.rm.locals) (hf : k + M'.rm.cells ≤ M.rm.cells ∧ n + M'.rm.slots ≤ M.rm.slots) (hcat : (st.map fun v => v.category).sum ≤ 8) (d : decode cc pc = .ok (.invokestatic index, 3)) (kx : ∀ (C : String) (q : Nat) (h' : AH), Px' C q h' → VX E cc own M Po Px X h' (k + M'.rm.cells) (n + M'.rm.slots) pc ls C q) (kk : ∀ (r : Option Nat) (h' : AH), P r h' → V E cc own M Po Px X h' (k + M'.rm.cells) (n + M'.rm.slots) (pc + 3) ls (va_rf r :: st)) : V E cc own M Po Px X h k n pc ls (st) := g_callS (av := []) hc hk hlk hR hf rfl hcat d kx (fun v h' z => by
    obtain ⟨r, rfl, p⟩ := z
    exact kk r h' p)
theorem g_S0v0 {index : Nat} {cc' : ByteArray} {M' : GM} {P : AH → Prop} (hc : Ct E cc' M' [] h (pV (fun h' => P h')) noX) (hk : gCs cc' M' 0) (hlk : Cond.methodLink own index M'.y ∈ lw_all) (hR : M'.rm.frames + 1 ≤ M.rm.frames ∧ 8 + (M'.nL + 11) + M'.rm.locals ≤ M.rm.locals) (hz : M'.rm.cells = 0 ∧ M'.rm.slots = 0) (hf : k ≤ M.rm.cells ∧ n ≤ M.rm.slots) (hcat : (st.map fun v => v.category).sum ≤ 8) (d : decode cc pc = .ok (.invokestatic index, 3)) (kk : ∀ (h' : AH), P h' → V E cc own M Po Px X h' k n (pc + 3) ls st) : V E cc own M Po Px X h k n pc ls (st) := by
  obtain ⟨z1, z2⟩ := hz
  refine g_callS (av := []) hc hk hlk hR (by rw [z1, z2]; exact hf) rfl hcat d (fun _ _ _ z => z.elim) (fun v h' z => by
    obtain ⟨rfl, p⟩ := z
    rw [z1, z2]
    exact kk h' p)
theorem g_S0v0x {index : Nat} {cc' : ByteArray} {M' : GM} {P : AH → Prop} {Px' : String → Nat → AH → Prop} (hc : Ct E cc' M' [] h (pV (fun h' => P h')) Px') (hk : gCs cc' M' 0) (hlk : Cond.methodLink own index M'.y ∈ lw_all) (hR : M'.rm.frames + 1 ≤ M.rm.frames ∧ 8 + (M'.nL + 11) + M'.rm.locals ≤ M.rm.locals) (hz : M'.rm.cells = 0 ∧ M'.rm.slots = 0) (hf : k ≤ M.rm.cells ∧ n ≤ M.rm.slots) (hcat : (st.map fun v => v.category).sum ≤ 8) (d : decode cc pc = .ok (.invokestatic index, 3)) (kx : ∀ (C : String) (q : Nat) (h' : AH), Px' C q h' → VX E cc own M Po Px X h' k n pc ls C q) (kk : ∀ (h' : AH), P h' → V E cc own M Po Px X h' k n (pc + 3) ls st) : V E cc own M Po Px X h k n pc ls (st) := by
  obtain ⟨z1, z2⟩ := hz
  refine g_callS (av := []) hc hk hlk hR (by rw [z1, z2]; exact hf) rfl hcat d (fun C q h' z => by rw [z1, z2]; exact kx C q h' z) (fun v h' z => by
    obtain ⟨rfl, p⟩ := z
    rw [z1, z2]
    exact kk h' p)
theorem g_S0v {index : Nat} {cc' : ByteArray} {M' : GM} {P : AH → Prop} (hc : Ct E cc' M' [] h (pV (fun h' => P h')) noX) (hk : gCs cc' M' 0) (hlk : Cond.methodLink own index M'.y ∈ lw_all) (hR : M'.rm.frames + 1 ≤ M.rm.frames ∧ 8 + (M'.nL + 11) + M'.rm.locals ≤ M.rm.locals) (hf : k + M'.rm.cells ≤ M.rm.cells ∧ n + M'.rm.slots ≤ M.rm.slots) (hcat : (st.map fun v => v.category).sum ≤ 8) (d : decode cc pc = .ok (.invokestatic index, 3)) (kk : ∀ (h' : AH), P h' → V E cc own M Po Px X h' (k + M'.rm.cells) (n + M'.rm.slots) (pc + 3) ls st) : V E cc own M Po Px X h k n pc ls (st) := g_callS (av := []) hc hk hlk hR hf rfl hcat d (fun _ _ _ z => z.elim) (fun v h' z => by
    obtain ⟨rfl, p⟩ := z
    exact kk h' p)
theorem g_S0vx {index : Nat} {cc' : ByteArray} {M' : GM} {P : AH → Prop} {Px' : String → Nat → AH → Prop} (hc : Ct E cc' M' [] h (pV (fun h' => P h')) Px') (hk : gCs cc' M' 0) (hlk : Cond.methodLink own index M'.y ∈ lw_all) (hR : M'.rm.frames + 1 ≤ M.rm.frames ∧ 8 + (M'.nL + 11) + M'.rm.locals ≤ M.rm.locals) (hf : k + M'.rm.cells ≤ M.rm.cells ∧ n + M'.rm.slots ≤ M.rm.slots) (hcat : (st.map fun v => v.category).sum ≤ 8) (d : decode cc pc = .ok (.invokestatic index, 3)) (kx : ∀ (C : String) (q : Nat) (h' : AH), Px' C q h' → VX E cc own M Po Px X h' (k + M'.rm.cells) (n + M'.rm.slots) pc ls C q) (kk : ∀ (h' : AH), P h' → V E cc own M Po Px X h' (k + M'.rm.cells) (n + M'.rm.slots) (pc + 3) ls st) : V E cc own M Po Px X h k n pc ls (st) := g_callS (av := []) hc hk hlk hR hf rfl hcat d kx (fun v h' z => by
    obtain ⟨rfl, p⟩ := z
    exact kk h' p)
theorem g_S1i0 {index : Nat} {cc' : ByteArray} {M' : GM} {a1 : Value} {P : Int32 → AH → Prop} (hc : Ct E cc' M' [a1] h (pI (fun r h' => P r h')) noX) (hk : gCs cc' M' 1) (hlk : Cond.methodLink own index M'.y ∈ lw_all) (hR : M'.rm.frames + 1 ≤ M.rm.frames ∧ 8 + (M'.nL + 11) + M'.rm.locals ≤ M.rm.locals) (hz : M'.rm.cells = 0 ∧ M'.rm.slots = 0) (hf : k ≤ M.rm.cells ∧ n ≤ M.rm.slots) (hcat : (st.map fun v => v.category).sum ≤ 8) (d : decode cc pc = .ok (.invokestatic index, 3)) (kk : ∀ (r : Int32) (h' : AH), P r h' → V E cc own M Po Px X h' k n (pc + 3) ls (.int r :: st)) : V E cc own M Po Px X h k n pc ls (a1 :: st) := by
  obtain ⟨z1, z2⟩ := hz
  refine g_callS (av := [a1]) hc hk hlk hR (by rw [z1, z2]; exact hf) rfl hcat d (fun _ _ _ z => z.elim) (fun v h' z => by
    obtain ⟨r, rfl, p⟩ := z
    rw [z1, z2]
    exact kk r h' p)
theorem g_S1i0x {index : Nat} {cc' : ByteArray} {M' : GM} {a1 : Value} {P : Int32 → AH → Prop} {Px' : String → Nat → AH → Prop} (hc : Ct E cc' M' [a1] h (pI (fun r h' => P r h')) Px') (hk : gCs cc' M' 1) (hlk : Cond.methodLink own index M'.y ∈ lw_all) (hR : M'.rm.frames + 1 ≤ M.rm.frames ∧ 8 + (M'.nL + 11) + M'.rm.locals ≤ M.rm.locals) (hz : M'.rm.cells = 0 ∧ M'.rm.slots = 0) (hf : k ≤ M.rm.cells ∧ n ≤ M.rm.slots) (hcat : (st.map fun v => v.category).sum ≤ 8) (d : decode cc pc = .ok (.invokestatic index, 3)) (kx : ∀ (C : String) (q : Nat) (h' : AH), Px' C q h' → VX E cc own M Po Px X h' k n pc ls C q) (kk : ∀ (r : Int32) (h' : AH), P r h' → V E cc own M Po Px X h' k n (pc + 3) ls (.int r :: st)) : V E cc own M Po Px X h k n pc ls (a1 :: st) := by
  obtain ⟨z1, z2⟩ := hz
  refine g_callS (av := [a1]) hc hk hlk hR (by rw [z1, z2]; exact hf) rfl hcat d (fun C q h' z => by rw [z1, z2]; exact kx C q h' z) (fun v h' z => by
    obtain ⟨r, rfl, p⟩ := z
    rw [z1, z2]
    exact kk r h' p)
theorem g_S1i {index : Nat} {cc' : ByteArray} {M' : GM} {a1 : Value} {P : Int32 → AH → Prop} (hc : Ct E cc' M' [a1] h (pI (fun r h' => P r h')) noX) (hk : gCs cc' M' 1) (hlk : Cond.methodLink own index M'.y ∈ lw_all) (hR : M'.rm.frames + 1 ≤ M.rm.frames ∧ 8 + (M'.nL + 11) + M'.rm.locals ≤ M.rm.locals) (hf : k + M'.rm.cells ≤ M.rm.cells ∧ n + M'.rm.slots ≤ M.rm.slots) (hcat : (st.map fun v => v.category).sum ≤ 8) (d : decode cc pc = .ok (.invokestatic index, 3)) (kk : ∀ (r : Int32) (h' : AH), P r h' → V E cc own M Po Px X h' (k + M'.rm.cells) (n + M'.rm.slots) (pc + 3) ls (.int r :: st)) : V E cc own M Po Px X h k n pc ls (a1 :: st) := g_callS (av := [a1]) hc hk hlk hR hf rfl hcat d (fun _ _ _ z => z.elim) (fun v h' z => by
    obtain ⟨r, rfl, p⟩ := z
    exact kk r h' p)
theorem g_S1ix {index : Nat} {cc' : ByteArray} {M' : GM} {a1 : Value} {P : Int32 → AH → Prop} {Px' : String → Nat → AH → Prop} (hc : Ct E cc' M' [a1] h (pI (fun r h' => P r h')) Px') (hk : gCs cc' M' 1) (hlk : Cond.methodLink own index M'.y ∈ lw_all) (hR : M'.rm.frames + 1 ≤ M.rm.frames ∧ 8 + (M'.nL + 11) + M'.rm.locals ≤ M.rm.locals) (hf : k + M'.rm.cells ≤ M.rm.cells ∧ n + M'.rm.slots ≤ M.rm.slots) (hcat : (st.map fun v => v.category).sum ≤ 8) (d : decode cc pc = .ok (.invokestatic index, 3)) (kx : ∀ (C : String) (q : Nat) (h' : AH), Px' C q h' → VX E cc own M Po Px X h' (k + M'.rm.cells) (n + M'.rm.slots) pc ls C q) (kk : ∀ (r : Int32) (h' : AH), P r h' → V E cc own M Po Px X h' (k + M'.rm.cells) (n + M'.rm.slots) (pc + 3) ls (.int r :: st)) : V E cc own M Po Px X h k n pc ls (a1 :: st) := g_callS (av := [a1]) hc hk hlk hR hf rfl hcat d kx (fun v h' z => by
    obtain ⟨r, rfl, p⟩ := z
    exact kk r h' p)
theorem g_S1n0 {index : Nat} {cc' : ByteArray} {M' : GM} {a1 : Value} {P : Nat → AH → Prop} (hc : Ct E cc' M' [a1] h (pN (fun r h' => P r h')) noX) (hk : gCs cc' M' 1) (hlk : Cond.methodLink own index M'.y ∈ lw_all) (hR : M'.rm.frames + 1 ≤ M.rm.frames ∧ 8 + (M'.nL + 11) + M'.rm.locals ≤ M.rm.locals) (hz : M'.rm.cells = 0 ∧ M'.rm.slots = 0) (hf : k ≤ M.rm.cells ∧ n ≤ M.rm.slots) (hcat : (st.map fun v => v.category).sum ≤ 8) (d : decode cc pc = .ok (.invokestatic index, 3)) (kk : ∀ (r : Nat) (h' : AH), P r h' → V E cc own M Po Px X h' k n (pc + 3) ls (.int (nI r) :: st)) : V E cc own M Po Px X h k n pc ls (a1 :: st) := by
  obtain ⟨z1, z2⟩ := hz
  refine g_callS (av := [a1]) hc hk hlk hR (by rw [z1, z2]; exact hf) rfl hcat d (fun _ _ _ z => z.elim) (fun v h' z => by
    obtain ⟨r, rfl, p⟩ := z
    rw [z1, z2]
    exact kk r h' p)
theorem g_S1n0x {index : Nat} {cc' : ByteArray} {M' : GM} {a1 : Value} {P : Nat → AH → Prop} {Px' : String → Nat → AH → Prop} (hc : Ct E cc' M' [a1] h (pN (fun r h' => P r h')) Px') (hk : gCs cc' M' 1) (hlk : Cond.methodLink own index M'.y ∈ lw_all) (hR : M'.rm.frames + 1 ≤ M.rm.frames ∧ 8 + (M'.nL + 11) + M'.rm.locals ≤ M.rm.locals) (hz : M'.rm.cells = 0 ∧ M'.rm.slots = 0) (hf : k ≤ M.rm.cells ∧ n ≤ M.rm.slots) (hcat : (st.map fun v => v.category).sum ≤ 8) (d : decode cc pc = .ok (.invokestatic index, 3)) (kx : ∀ (C : String) (q : Nat) (h' : AH), Px' C q h' → VX E cc own M Po Px X h' k n pc ls C q) (kk : ∀ (r : Nat) (h' : AH), P r h' → V E cc own M Po Px X h' k n (pc + 3) ls (.int (nI r) :: st)) : V E cc own M Po Px X h k n pc ls (a1 :: st) := by
  obtain ⟨z1, z2⟩ := hz
  refine g_callS (av := [a1]) hc hk hlk hR (by rw [z1, z2]; exact hf) rfl hcat d (fun C q h' z => by rw [z1, z2]; exact kx C q h' z) (fun v h' z => by
    obtain ⟨r, rfl, p⟩ := z
    rw [z1, z2]
    exact kk r h' p)
theorem g_S1n {index : Nat} {cc' : ByteArray} {M' : GM} {a1 : Value} {P : Nat → AH → Prop} (hc : Ct E cc' M' [a1] h (pN (fun r h' => P r h')) noX) (hk : gCs cc' M' 1) (hlk : Cond.methodLink own index M'.y ∈ lw_all) (hR : M'.rm.frames + 1 ≤ M.rm.frames ∧ 8 + (M'.nL + 11) + M'.rm.locals ≤ M.rm.locals) (hf : k + M'.rm.cells ≤ M.rm.cells ∧ n + M'.rm.slots ≤ M.rm.slots) (hcat : (st.map fun v => v.category).sum ≤ 8) (d : decode cc pc = .ok (.invokestatic index, 3)) (kk : ∀ (r : Nat) (h' : AH), P r h' → V E cc own M Po Px X h' (k + M'.rm.cells) (n + M'.rm.slots) (pc + 3) ls (.int (nI r) :: st)) : V E cc own M Po Px X h k n pc ls (a1 :: st) := g_callS (av := [a1]) hc hk hlk hR hf rfl hcat d (fun _ _ _ z => z.elim) (fun v h' z => by
    obtain ⟨r, rfl, p⟩ := z
    exact kk r h' p)
theorem g_S1nx {index : Nat} {cc' : ByteArray} {M' : GM} {a1 : Value} {P : Nat → AH → Prop} {Px' : String → Nat → AH → Prop} (hc : Ct E cc' M' [a1] h (pN (fun r h' => P r h')) Px') (hk : gCs cc' M' 1) (hlk : Cond.methodLink own index M'.y ∈ lw_all) (hR : M'.rm.frames + 1 ≤ M.rm.frames ∧ 8 + (M'.nL + 11) + M'.rm.locals ≤ M.rm.locals) (hf : k + M'.rm.cells ≤ M.rm.cells ∧ n + M'.rm.slots ≤ M.rm.slots) (hcat : (st.map fun v => v.category).sum ≤ 8) (d : decode cc pc = .ok (.invokestatic index, 3)) (kx : ∀ (C : String) (q : Nat) (h' : AH), Px' C q h' → VX E cc own M Po Px X h' (k + M'.rm.cells) (n + M'.rm.slots) pc ls C q) (kk : ∀ (r : Nat) (h' : AH), P r h' → V E cc own M Po Px X h' (k + M'.rm.cells) (n + M'.rm.slots) (pc + 3) ls (.int (nI r) :: st)) : V E cc own M Po Px X h k n pc ls (a1 :: st) := g_callS (av := [a1]) hc hk hlk hR hf rfl hcat d kx (fun v h' z => by
    obtain ⟨r, rfl, p⟩ := z
    exact kk r h' p)
theorem g_S1l0 {index : Nat} {cc' : ByteArray} {M' : GM} {a1 : Value} {P : Int64 → AH → Prop} (hc : Ct E cc' M' [a1] h (pL (fun r h' => P r h')) noX) (hk : gCs cc' M' 1) (hlk : Cond.methodLink own index M'.y ∈ lw_all) (hR : M'.rm.frames + 1 ≤ M.rm.frames ∧ 8 + (M'.nL + 11) + M'.rm.locals ≤ M.rm.locals) (hz : M'.rm.cells = 0 ∧ M'.rm.slots = 0) (hf : k ≤ M.rm.cells ∧ n ≤ M.rm.slots) (hcat : (st.map fun v => v.category).sum ≤ 8) (d : decode cc pc = .ok (.invokestatic index, 3)) (kk : ∀ (r : Int64) (h' : AH), P r h' → V E cc own M Po Px X h' k n (pc + 3) ls (.long r :: st)) : V E cc own M Po Px X h k n pc ls (a1 :: st) := by
  obtain ⟨z1, z2⟩ := hz
  refine g_callS (av := [a1]) hc hk hlk hR (by rw [z1, z2]; exact hf) rfl hcat d (fun _ _ _ z => z.elim) (fun v h' z => by
    obtain ⟨r, rfl, p⟩ := z
    rw [z1, z2]
    exact kk r h' p)
theorem g_S1l0x {index : Nat} {cc' : ByteArray} {M' : GM} {a1 : Value} {P : Int64 → AH → Prop} {Px' : String → Nat → AH → Prop} (hc : Ct E cc' M' [a1] h (pL (fun r h' => P r h')) Px') (hk : gCs cc' M' 1) (hlk : Cond.methodLink own index M'.y ∈ lw_all) (hR : M'.rm.frames + 1 ≤ M.rm.frames ∧ 8 + (M'.nL + 11) + M'.rm.locals ≤ M.rm.locals) (hz : M'.rm.cells = 0 ∧ M'.rm.slots = 0) (hf : k ≤ M.rm.cells ∧ n ≤ M.rm.slots) (hcat : (st.map fun v => v.category).sum ≤ 8) (d : decode cc pc = .ok (.invokestatic index, 3)) (kx : ∀ (C : String) (q : Nat) (h' : AH), Px' C q h' → VX E cc own M Po Px X h' k n pc ls C q) (kk : ∀ (r : Int64) (h' : AH), P r h' → V E cc own M Po Px X h' k n (pc + 3) ls (.long r :: st)) : V E cc own M Po Px X h k n pc ls (a1 :: st) := by
  obtain ⟨z1, z2⟩ := hz
  refine g_callS (av := [a1]) hc hk hlk hR (by rw [z1, z2]; exact hf) rfl hcat d (fun C q h' z => by rw [z1, z2]; exact kx C q h' z) (fun v h' z => by
    obtain ⟨r, rfl, p⟩ := z
    rw [z1, z2]
    exact kk r h' p)
theorem g_S1l {index : Nat} {cc' : ByteArray} {M' : GM} {a1 : Value} {P : Int64 → AH → Prop} (hc : Ct E cc' M' [a1] h (pL (fun r h' => P r h')) noX) (hk : gCs cc' M' 1) (hlk : Cond.methodLink own index M'.y ∈ lw_all) (hR : M'.rm.frames + 1 ≤ M.rm.frames ∧ 8 + (M'.nL + 11) + M'.rm.locals ≤ M.rm.locals) (hf : k + M'.rm.cells ≤ M.rm.cells ∧ n + M'.rm.slots ≤ M.rm.slots) (hcat : (st.map fun v => v.category).sum ≤ 8) (d : decode cc pc = .ok (.invokestatic index, 3)) (kk : ∀ (r : Int64) (h' : AH), P r h' → V E cc own M Po Px X h' (k + M'.rm.cells) (n + M'.rm.slots) (pc + 3) ls (.long r :: st)) : V E cc own M Po Px X h k n pc ls (a1 :: st) := g_callS (av := [a1]) hc hk hlk hR hf rfl hcat d (fun _ _ _ z => z.elim) (fun v h' z => by
    obtain ⟨r, rfl, p⟩ := z
    exact kk r h' p)
theorem g_S1lx {index : Nat} {cc' : ByteArray} {M' : GM} {a1 : Value} {P : Int64 → AH → Prop} {Px' : String → Nat → AH → Prop} (hc : Ct E cc' M' [a1] h (pL (fun r h' => P r h')) Px') (hk : gCs cc' M' 1) (hlk : Cond.methodLink own index M'.y ∈ lw_all) (hR : M'.rm.frames + 1 ≤ M.rm.frames ∧ 8 + (M'.nL + 11) + M'.rm.locals ≤ M.rm.locals) (hf : k + M'.rm.cells ≤ M.rm.cells ∧ n + M'.rm.slots ≤ M.rm.slots) (hcat : (st.map fun v => v.category).sum ≤ 8) (d : decode cc pc = .ok (.invokestatic index, 3)) (kx : ∀ (C : String) (q : Nat) (h' : AH), Px' C q h' → VX E cc own M Po Px X h' (k + M'.rm.cells) (n + M'.rm.slots) pc ls C q) (kk : ∀ (r : Int64) (h' : AH), P r h' → V E cc own M Po Px X h' (k + M'.rm.cells) (n + M'.rm.slots) (pc + 3) ls (.long r :: st)) : V E cc own M Po Px X h k n pc ls (a1 :: st) := g_callS (av := [a1]) hc hk hlk hR hf rfl hcat d kx (fun v h' z => by
    obtain ⟨r, rfl, p⟩ := z
    exact kk r h' p)
theorem g_S1r0 {index : Nat} {cc' : ByteArray} {M' : GM} {a1 : Value} {P : Nat → AH → Prop} (hc : Ct E cc' M' [a1] h (pR (fun r h' => P r h')) noX) (hk : gCs cc' M' 1) (hlk : Cond.methodLink own index M'.y ∈ lw_all) (hR : M'.rm.frames + 1 ≤ M.rm.frames ∧ 8 + (M'.nL + 11) + M'.rm.locals ≤ M.rm.locals) (hz : M'.rm.cells = 0 ∧ M'.rm.slots = 0) (hf : k ≤ M.rm.cells ∧ n ≤ M.rm.slots) (hcat : (st.map fun v => v.category).sum ≤ 8) (d : decode cc pc = .ok (.invokestatic index, 3)) (kk : ∀ (r : Nat) (h' : AH), P r h' → V E cc own M Po Px X h' k n (pc + 3) ls (.ref r :: st)) : V E cc own M Po Px X h k n pc ls (a1 :: st) := by
  obtain ⟨z1, z2⟩ := hz
  refine g_callS (av := [a1]) hc hk hlk hR (by rw [z1, z2]; exact hf) rfl hcat d (fun _ _ _ z => z.elim) (fun v h' z => by
    obtain ⟨r, rfl, p⟩ := z
    rw [z1, z2]
    exact kk r h' p)
theorem g_S1r0x {index : Nat} {cc' : ByteArray} {M' : GM} {a1 : Value} {P : Nat → AH → Prop} {Px' : String → Nat → AH → Prop} (hc : Ct E cc' M' [a1] h (pR (fun r h' => P r h')) Px') (hk : gCs cc' M' 1) (hlk : Cond.methodLink own index M'.y ∈ lw_all) (hR : M'.rm.frames + 1 ≤ M.rm.frames ∧ 8 + (M'.nL + 11) + M'.rm.locals ≤ M.rm.locals) (hz : M'.rm.cells = 0 ∧ M'.rm.slots = 0) (hf : k ≤ M.rm.cells ∧ n ≤ M.rm.slots) (hcat : (st.map fun v => v.category).sum ≤ 8) (d : decode cc pc = .ok (.invokestatic index, 3)) (kx : ∀ (C : String) (q : Nat) (h' : AH), Px' C q h' → VX E cc own M Po Px X h' k n pc ls C q) (kk : ∀ (r : Nat) (h' : AH), P r h' → V E cc own M Po Px X h' k n (pc + 3) ls (.ref r :: st)) : V E cc own M Po Px X h k n pc ls (a1 :: st) := by
  obtain ⟨z1, z2⟩ := hz
  refine g_callS (av := [a1]) hc hk hlk hR (by rw [z1, z2]; exact hf) rfl hcat d (fun C q h' z => by rw [z1, z2]; exact kx C q h' z) (fun v h' z => by
    obtain ⟨r, rfl, p⟩ := z
    rw [z1, z2]
    exact kk r h' p)
theorem g_S1r {index : Nat} {cc' : ByteArray} {M' : GM} {a1 : Value} {P : Nat → AH → Prop} (hc : Ct E cc' M' [a1] h (pR (fun r h' => P r h')) noX) (hk : gCs cc' M' 1) (hlk : Cond.methodLink own index M'.y ∈ lw_all) (hR : M'.rm.frames + 1 ≤ M.rm.frames ∧ 8 + (M'.nL + 11) + M'.rm.locals ≤ M.rm.locals) (hf : k + M'.rm.cells ≤ M.rm.cells ∧ n + M'.rm.slots ≤ M.rm.slots) (hcat : (st.map fun v => v.category).sum ≤ 8) (d : decode cc pc = .ok (.invokestatic index, 3)) (kk : ∀ (r : Nat) (h' : AH), P r h' → V E cc own M Po Px X h' (k + M'.rm.cells) (n + M'.rm.slots) (pc + 3) ls (.ref r :: st)) : V E cc own M Po Px X h k n pc ls (a1 :: st) := g_callS (av := [a1]) hc hk hlk hR hf rfl hcat d (fun _ _ _ z => z.elim) (fun v h' z => by
    obtain ⟨r, rfl, p⟩ := z
    exact kk r h' p)
theorem g_S1rx {index : Nat} {cc' : ByteArray} {M' : GM} {a1 : Value} {P : Nat → AH → Prop} {Px' : String → Nat → AH → Prop} (hc : Ct E cc' M' [a1] h (pR (fun r h' => P r h')) Px') (hk : gCs cc' M' 1) (hlk : Cond.methodLink own index M'.y ∈ lw_all) (hR : M'.rm.frames + 1 ≤ M.rm.frames ∧ 8 + (M'.nL + 11) + M'.rm.locals ≤ M.rm.locals) (hf : k + M'.rm.cells ≤ M.rm.cells ∧ n + M'.rm.slots ≤ M.rm.slots) (hcat : (st.map fun v => v.category).sum ≤ 8) (d : decode cc pc = .ok (.invokestatic index, 3)) (kx : ∀ (C : String) (q : Nat) (h' : AH), Px' C q h' → VX E cc own M Po Px X h' (k + M'.rm.cells) (n + M'.rm.slots) pc ls C q) (kk : ∀ (r : Nat) (h' : AH), P r h' → V E cc own M Po Px X h' (k + M'.rm.cells) (n + M'.rm.slots) (pc + 3) ls (.ref r :: st)) : V E cc own M Po Px X h k n pc ls (a1 :: st) := g_callS (av := [a1]) hc hk hlk hR hf rfl hcat d kx (fun v h' z => by
    obtain ⟨r, rfl, p⟩ := z
    exact kk r h' p)
theorem g_S1q0 {index : Nat} {cc' : ByteArray} {M' : GM} {a1 : Value} {P : Option Nat → AH → Prop} (hc : Ct E cc' M' [a1] h (pQ (fun r h' => P r h')) noX) (hk : gCs cc' M' 1) (hlk : Cond.methodLink own index M'.y ∈ lw_all) (hR : M'.rm.frames + 1 ≤ M.rm.frames ∧ 8 + (M'.nL + 11) + M'.rm.locals ≤ M.rm.locals) (hz : M'.rm.cells = 0 ∧ M'.rm.slots = 0) (hf : k ≤ M.rm.cells ∧ n ≤ M.rm.slots) (hcat : (st.map fun v => v.category).sum ≤ 8) (d : decode cc pc = .ok (.invokestatic index, 3)) (kk : ∀ (r : Option Nat) (h' : AH), P r h' → V E cc own M Po Px X h' k n (pc + 3) ls (va_rf r :: st)) : V E cc own M Po Px X h k n pc ls (a1 :: st) := by
  obtain ⟨z1, z2⟩ := hz
  refine g_callS (av := [a1]) hc hk hlk hR (by rw [z1, z2]; exact hf) rfl hcat d (fun _ _ _ z => z.elim) (fun v h' z => by
    obtain ⟨r, rfl, p⟩ := z
    rw [z1, z2]
    exact kk r h' p)
theorem g_S1q0x {index : Nat} {cc' : ByteArray} {M' : GM} {a1 : Value} {P : Option Nat → AH → Prop} {Px' : String → Nat → AH → Prop} (hc : Ct E cc' M' [a1] h (pQ (fun r h' => P r h')) Px') (hk : gCs cc' M' 1) (hlk : Cond.methodLink own index M'.y ∈ lw_all) (hR : M'.rm.frames + 1 ≤ M.rm.frames ∧ 8 + (M'.nL + 11) + M'.rm.locals ≤ M.rm.locals) (hz : M'.rm.cells = 0 ∧ M'.rm.slots = 0) (hf : k ≤ M.rm.cells ∧ n ≤ M.rm.slots) (hcat : (st.map fun v => v.category).sum ≤ 8) (d : decode cc pc = .ok (.invokestatic index, 3)) (kx : ∀ (C : String) (q : Nat) (h' : AH), Px' C q h' → VX E cc own M Po Px X h' k n pc ls C q) (kk : ∀ (r : Option Nat) (h' : AH), P r h' → V E cc own M Po Px X h' k n (pc + 3) ls (va_rf r :: st)) : V E cc own M Po Px X h k n pc ls (a1 :: st) := by
  obtain ⟨z1, z2⟩ := hz
  refine g_callS (av := [a1]) hc hk hlk hR (by rw [z1, z2]; exact hf) rfl hcat d (fun C q h' z => by rw [z1, z2]; exact kx C q h' z) (fun v h' z => by
    obtain ⟨r, rfl, p⟩ := z
    rw [z1, z2]
    exact kk r h' p)
theorem g_S1q {index : Nat} {cc' : ByteArray} {M' : GM} {a1 : Value} {P : Option Nat → AH → Prop} (hc : Ct E cc' M' [a1] h (pQ (fun r h' => P r h')) noX) (hk : gCs cc' M' 1) (hlk : Cond.methodLink own index M'.y ∈ lw_all) (hR : M'.rm.frames + 1 ≤ M.rm.frames ∧ 8 + (M'.nL + 11) + M'.rm.locals ≤ M.rm.locals) (hf : k + M'.rm.cells ≤ M.rm.cells ∧ n + M'.rm.slots ≤ M.rm.slots) (hcat : (st.map fun v => v.category).sum ≤ 8) (d : decode cc pc = .ok (.invokestatic index, 3)) (kk : ∀ (r : Option Nat) (h' : AH), P r h' → V E cc own M Po Px X h' (k + M'.rm.cells) (n + M'.rm.slots) (pc + 3) ls (va_rf r :: st)) : V E cc own M Po Px X h k n pc ls (a1 :: st) := g_callS (av := [a1]) hc hk hlk hR hf rfl hcat d (fun _ _ _ z => z.elim) (fun v h' z => by
    obtain ⟨r, rfl, p⟩ := z
    exact kk r h' p)
theorem g_S1qx {index : Nat} {cc' : ByteArray} {M' : GM} {a1 : Value} {P : Option Nat → AH → Prop} {Px' : String → Nat → AH → Prop} (hc : Ct E cc' M' [a1] h (pQ (fun r h' => P r h')) Px') (hk : gCs cc' M' 1) (hlk : Cond.methodLink own index M'.y ∈ lw_all) (hR : M'.rm.frames + 1 ≤ M.rm.frames ∧ 8 + (M'.nL + 11) + M'.rm.locals ≤ M.rm.locals) (hf : k + M'.rm.cells ≤ M.rm.cells ∧ n + M'.rm.slots ≤ M.rm.slots) (hcat : (st.map fun v => v.category).sum ≤ 8) (d : decode cc pc = .ok (.invokestatic index, 3)) (kx : ∀ (C : String) (q : Nat) (h' : AH), Px' C q h' → VX E cc own M Po Px X h' (k + M'.rm.cells) (n + M'.rm.slots) pc ls C q) (kk : ∀ (r : Option Nat) (h' : AH), P r h' → V E cc own M Po Px X h' (k + M'.rm.cells) (n + M'.rm.slots) (pc + 3) ls (va_rf r :: st)) : V E cc own M Po Px X h k n pc ls (a1 :: st) := g_callS (av := [a1]) hc hk hlk hR hf rfl hcat d kx (fun v h' z => by
    obtain ⟨r, rfl, p⟩ := z
    exact kk r h' p)
theorem g_S1v0 {index : Nat} {cc' : ByteArray} {M' : GM} {a1 : Value} {P : AH → Prop} (hc : Ct E cc' M' [a1] h (pV (fun h' => P h')) noX) (hk : gCs cc' M' 1) (hlk : Cond.methodLink own index M'.y ∈ lw_all) (hR : M'.rm.frames + 1 ≤ M.rm.frames ∧ 8 + (M'.nL + 11) + M'.rm.locals ≤ M.rm.locals) (hz : M'.rm.cells = 0 ∧ M'.rm.slots = 0) (hf : k ≤ M.rm.cells ∧ n ≤ M.rm.slots) (hcat : (st.map fun v => v.category).sum ≤ 8) (d : decode cc pc = .ok (.invokestatic index, 3)) (kk : ∀ (h' : AH), P h' → V E cc own M Po Px X h' k n (pc + 3) ls st) : V E cc own M Po Px X h k n pc ls (a1 :: st) := by
  obtain ⟨z1, z2⟩ := hz
  refine g_callS (av := [a1]) hc hk hlk hR (by rw [z1, z2]; exact hf) rfl hcat d (fun _ _ _ z => z.elim) (fun v h' z => by
    obtain ⟨rfl, p⟩ := z
    rw [z1, z2]
    exact kk h' p)
theorem g_S1v0x {index : Nat} {cc' : ByteArray} {M' : GM} {a1 : Value} {P : AH → Prop} {Px' : String → Nat → AH → Prop} (hc : Ct E cc' M' [a1] h (pV (fun h' => P h')) Px') (hk : gCs cc' M' 1) (hlk : Cond.methodLink own index M'.y ∈ lw_all) (hR : M'.rm.frames + 1 ≤ M.rm.frames ∧ 8 + (M'.nL + 11) + M'.rm.locals ≤ M.rm.locals) (hz : M'.rm.cells = 0 ∧ M'.rm.slots = 0) (hf : k ≤ M.rm.cells ∧ n ≤ M.rm.slots) (hcat : (st.map fun v => v.category).sum ≤ 8) (d : decode cc pc = .ok (.invokestatic index, 3)) (kx : ∀ (C : String) (q : Nat) (h' : AH), Px' C q h' → VX E cc own M Po Px X h' k n pc ls C q) (kk : ∀ (h' : AH), P h' → V E cc own M Po Px X h' k n (pc + 3) ls st) : V E cc own M Po Px X h k n pc ls (a1 :: st) := by
  obtain ⟨z1, z2⟩ := hz
  refine g_callS (av := [a1]) hc hk hlk hR (by rw [z1, z2]; exact hf) rfl hcat d (fun C q h' z => by rw [z1, z2]; exact kx C q h' z) (fun v h' z => by
    obtain ⟨rfl, p⟩ := z
    rw [z1, z2]
    exact kk h' p)
theorem g_S1v {index : Nat} {cc' : ByteArray} {M' : GM} {a1 : Value} {P : AH → Prop} (hc : Ct E cc' M' [a1] h (pV (fun h' => P h')) noX) (hk : gCs cc' M' 1) (hlk : Cond.methodLink own index M'.y ∈ lw_all) (hR : M'.rm.frames + 1 ≤ M.rm.frames ∧ 8 + (M'.nL + 11) + M'.rm.locals ≤ M.rm.locals) (hf : k + M'.rm.cells ≤ M.rm.cells ∧ n + M'.rm.slots ≤ M.rm.slots) (hcat : (st.map fun v => v.category).sum ≤ 8) (d : decode cc pc = .ok (.invokestatic index, 3)) (kk : ∀ (h' : AH), P h' → V E cc own M Po Px X h' (k + M'.rm.cells) (n + M'.rm.slots) (pc + 3) ls st) : V E cc own M Po Px X h k n pc ls (a1 :: st) := g_callS (av := [a1]) hc hk hlk hR hf rfl hcat d (fun _ _ _ z => z.elim) (fun v h' z => by
    obtain ⟨rfl, p⟩ := z
    exact kk h' p)
theorem g_S1vx {index : Nat} {cc' : ByteArray} {M' : GM} {a1 : Value} {P : AH → Prop} {Px' : String → Nat → AH → Prop} (hc : Ct E cc' M' [a1] h (pV (fun h' => P h')) Px') (hk : gCs cc' M' 1) (hlk : Cond.methodLink own index M'.y ∈ lw_all) (hR : M'.rm.frames + 1 ≤ M.rm.frames ∧ 8 + (M'.nL + 11) + M'.rm.locals ≤ M.rm.locals) (hf : k + M'.rm.cells ≤ M.rm.cells ∧ n + M'.rm.slots ≤ M.rm.slots) (hcat : (st.map fun v => v.category).sum ≤ 8) (d : decode cc pc = .ok (.invokestatic index, 3)) (kx : ∀ (C : String) (q : Nat) (h' : AH), Px' C q h' → VX E cc own M Po Px X h' (k + M'.rm.cells) (n + M'.rm.slots) pc ls C q) (kk : ∀ (h' : AH), P h' → V E cc own M Po Px X h' (k + M'.rm.cells) (n + M'.rm.slots) (pc + 3) ls st) : V E cc own M Po Px X h k n pc ls (a1 :: st) := g_callS (av := [a1]) hc hk hlk hR hf rfl hcat d kx (fun v h' z => by
    obtain ⟨rfl, p⟩ := z
    exact kk h' p)
theorem g_S2i0 {index : Nat} {cc' : ByteArray} {M' : GM} {a1 a2 : Value} {P : Int32 → AH → Prop} (hc : Ct E cc' M' [a1, a2] h (pI (fun r h' => P r h')) noX) (hk : gCs cc' M' 2) (hlk : Cond.methodLink own index M'.y ∈ lw_all) (hR : M'.rm.frames + 1 ≤ M.rm.frames ∧ 8 + (M'.nL + 11) + M'.rm.locals ≤ M.rm.locals) (hz : M'.rm.cells = 0 ∧ M'.rm.slots = 0) (hf : k ≤ M.rm.cells ∧ n ≤ M.rm.slots) (hcat : (st.map fun v => v.category).sum ≤ 8) (d : decode cc pc = .ok (.invokestatic index, 3)) (kk : ∀ (r : Int32) (h' : AH), P r h' → V E cc own M Po Px X h' k n (pc + 3) ls (.int r :: st)) : V E cc own M Po Px X h k n pc ls (a2 :: a1 :: st) := by
  obtain ⟨z1, z2⟩ := hz
  refine g_callS (av := [a1, a2]) hc hk hlk hR (by rw [z1, z2]; exact hf) rfl hcat d (fun _ _ _ z => z.elim) (fun v h' z => by
    obtain ⟨r, rfl, p⟩ := z
    rw [z1, z2]
    exact kk r h' p)
theorem g_S2i0x {index : Nat} {cc' : ByteArray} {M' : GM} {a1 a2 : Value} {P : Int32 → AH → Prop} {Px' : String → Nat → AH → Prop} (hc : Ct E cc' M' [a1, a2] h (pI (fun r h' => P r h')) Px') (hk : gCs cc' M' 2) (hlk : Cond.methodLink own index M'.y ∈ lw_all) (hR : M'.rm.frames + 1 ≤ M.rm.frames ∧ 8 + (M'.nL + 11) + M'.rm.locals ≤ M.rm.locals) (hz : M'.rm.cells = 0 ∧ M'.rm.slots = 0) (hf : k ≤ M.rm.cells ∧ n ≤ M.rm.slots) (hcat : (st.map fun v => v.category).sum ≤ 8) (d : decode cc pc = .ok (.invokestatic index, 3)) (kx : ∀ (C : String) (q : Nat) (h' : AH), Px' C q h' → VX E cc own M Po Px X h' k n pc ls C q) (kk : ∀ (r : Int32) (h' : AH), P r h' → V E cc own M Po Px X h' k n (pc + 3) ls (.int r :: st)) : V E cc own M Po Px X h k n pc ls (a2 :: a1 :: st) := by
  obtain ⟨z1, z2⟩ := hz
  refine g_callS (av := [a1, a2]) hc hk hlk hR (by rw [z1, z2]; exact hf) rfl hcat d (fun C q h' z => by rw [z1, z2]; exact kx C q h' z) (fun v h' z => by
    obtain ⟨r, rfl, p⟩ := z
    rw [z1, z2]
    exact kk r h' p)
theorem g_S2i {index : Nat} {cc' : ByteArray} {M' : GM} {a1 a2 : Value} {P : Int32 → AH → Prop} (hc : Ct E cc' M' [a1, a2] h (pI (fun r h' => P r h')) noX) (hk : gCs cc' M' 2) (hlk : Cond.methodLink own index M'.y ∈ lw_all) (hR : M'.rm.frames + 1 ≤ M.rm.frames ∧ 8 + (M'.nL + 11) + M'.rm.locals ≤ M.rm.locals) (hf : k + M'.rm.cells ≤ M.rm.cells ∧ n + M'.rm.slots ≤ M.rm.slots) (hcat : (st.map fun v => v.category).sum ≤ 8) (d : decode cc pc = .ok (.invokestatic index, 3)) (kk : ∀ (r : Int32) (h' : AH), P r h' → V E cc own M Po Px X h' (k + M'.rm.cells) (n + M'.rm.slots) (pc + 3) ls (.int r :: st)) : V E cc own M Po Px X h k n pc ls (a2 :: a1 :: st) := g_callS (av := [a1, a2]) hc hk hlk hR hf rfl hcat d (fun _ _ _ z => z.elim) (fun v h' z => by
    obtain ⟨r, rfl, p⟩ := z
    exact kk r h' p)
theorem g_S2ix {index : Nat} {cc' : ByteArray} {M' : GM} {a1 a2 : Value} {P : Int32 → AH → Prop} {Px' : String → Nat → AH → Prop} (hc : Ct E cc' M' [a1, a2] h (pI (fun r h' => P r h')) Px') (hk : gCs cc' M' 2) (hlk : Cond.methodLink own index M'.y ∈ lw_all) (hR : M'.rm.frames + 1 ≤ M.rm.frames ∧ 8 + (M'.nL + 11) + M'.rm.locals ≤ M.rm.locals) (hf : k + M'.rm.cells ≤ M.rm.cells ∧ n + M'.rm.slots ≤ M.rm.slots) (hcat : (st.map fun v => v.category).sum ≤ 8) (d : decode cc pc = .ok (.invokestatic index, 3)) (kx : ∀ (C : String) (q : Nat) (h' : AH), Px' C q h' → VX E cc own M Po Px X h' (k + M'.rm.cells) (n + M'.rm.slots) pc ls C q) (kk : ∀ (r : Int32) (h' : AH), P r h' → V E cc own M Po Px X h' (k + M'.rm.cells) (n + M'.rm.slots) (pc + 3) ls (.int r :: st)) : V E cc own M Po Px X h k n pc ls (a2 :: a1 :: st) := g_callS (av := [a1, a2]) hc hk hlk hR hf rfl hcat d kx (fun v h' z => by
    obtain ⟨r, rfl, p⟩ := z
    exact kk r h' p)
theorem g_S2n0 {index : Nat} {cc' : ByteArray} {M' : GM} {a1 a2 : Value} {P : Nat → AH → Prop} (hc : Ct E cc' M' [a1, a2] h (pN (fun r h' => P r h')) noX) (hk : gCs cc' M' 2) (hlk : Cond.methodLink own index M'.y ∈ lw_all) (hR : M'.rm.frames + 1 ≤ M.rm.frames ∧ 8 + (M'.nL + 11) + M'.rm.locals ≤ M.rm.locals) (hz : M'.rm.cells = 0 ∧ M'.rm.slots = 0) (hf : k ≤ M.rm.cells ∧ n ≤ M.rm.slots) (hcat : (st.map fun v => v.category).sum ≤ 8) (d : decode cc pc = .ok (.invokestatic index, 3)) (kk : ∀ (r : Nat) (h' : AH), P r h' → V E cc own M Po Px X h' k n (pc + 3) ls (.int (nI r) :: st)) : V E cc own M Po Px X h k n pc ls (a2 :: a1 :: st) := by
  obtain ⟨z1, z2⟩ := hz
  refine g_callS (av := [a1, a2]) hc hk hlk hR (by rw [z1, z2]; exact hf) rfl hcat d (fun _ _ _ z => z.elim) (fun v h' z => by
    obtain ⟨r, rfl, p⟩ := z
    rw [z1, z2]
    exact kk r h' p)
theorem g_S2n0x {index : Nat} {cc' : ByteArray} {M' : GM} {a1 a2 : Value} {P : Nat → AH → Prop} {Px' : String → Nat → AH → Prop} (hc : Ct E cc' M' [a1, a2] h (pN (fun r h' => P r h')) Px') (hk : gCs cc' M' 2) (hlk : Cond.methodLink own index M'.y ∈ lw_all) (hR : M'.rm.frames + 1 ≤ M.rm.frames ∧ 8 + (M'.nL + 11) + M'.rm.locals ≤ M.rm.locals) (hz : M'.rm.cells = 0 ∧ M'.rm.slots = 0) (hf : k ≤ M.rm.cells ∧ n ≤ M.rm.slots) (hcat : (st.map fun v => v.category).sum ≤ 8) (d : decode cc pc = .ok (.invokestatic index, 3)) (kx : ∀ (C : String) (q : Nat) (h' : AH), Px' C q h' → VX E cc own M Po Px X h' k n pc ls C q) (kk : ∀ (r : Nat) (h' : AH), P r h' → V E cc own M Po Px X h' k n (pc + 3) ls (.int (nI r) :: st)) : V E cc own M Po Px X h k n pc ls (a2 :: a1 :: st) := by
  obtain ⟨z1, z2⟩ := hz
  refine g_callS (av := [a1, a2]) hc hk hlk hR (by rw [z1, z2]; exact hf) rfl hcat d (fun C q h' z => by rw [z1, z2]; exact kx C q h' z) (fun v h' z => by
    obtain ⟨r, rfl, p⟩ := z
    rw [z1, z2]
    exact kk r h' p)
theorem g_S2n {index : Nat} {cc' : ByteArray} {M' : GM} {a1 a2 : Value} {P : Nat → AH → Prop} (hc : Ct E cc' M' [a1, a2] h (pN (fun r h' => P r h')) noX) (hk : gCs cc' M' 2) (hlk : Cond.methodLink own index M'.y ∈ lw_all) (hR : M'.rm.frames + 1 ≤ M.rm.frames ∧ 8 + (M'.nL + 11) + M'.rm.locals ≤ M.rm.locals) (hf : k + M'.rm.cells ≤ M.rm.cells ∧ n + M'.rm.slots ≤ M.rm.slots) (hcat : (st.map fun v => v.category).sum ≤ 8) (d : decode cc pc = .ok (.invokestatic index, 3)) (kk : ∀ (r : Nat) (h' : AH), P r h' → V E cc own M Po Px X h' (k + M'.rm.cells) (n + M'.rm.slots) (pc + 3) ls (.int (nI r) :: st)) : V E cc own M Po Px X h k n pc ls (a2 :: a1 :: st) := g_callS (av := [a1, a2]) hc hk hlk hR hf rfl hcat d (fun _ _ _ z => z.elim) (fun v h' z => by
    obtain ⟨r, rfl, p⟩ := z
    exact kk r h' p)
theorem g_S2nx {index : Nat} {cc' : ByteArray} {M' : GM} {a1 a2 : Value} {P : Nat → AH → Prop} {Px' : String → Nat → AH → Prop} (hc : Ct E cc' M' [a1, a2] h (pN (fun r h' => P r h')) Px') (hk : gCs cc' M' 2) (hlk : Cond.methodLink own index M'.y ∈ lw_all) (hR : M'.rm.frames + 1 ≤ M.rm.frames ∧ 8 + (M'.nL + 11) + M'.rm.locals ≤ M.rm.locals) (hf : k + M'.rm.cells ≤ M.rm.cells ∧ n + M'.rm.slots ≤ M.rm.slots) (hcat : (st.map fun v => v.category).sum ≤ 8) (d : decode cc pc = .ok (.invokestatic index, 3)) (kx : ∀ (C : String) (q : Nat) (h' : AH), Px' C q h' → VX E cc own M Po Px X h' (k + M'.rm.cells) (n + M'.rm.slots) pc ls C q) (kk : ∀ (r : Nat) (h' : AH), P r h' → V E cc own M Po Px X h' (k + M'.rm.cells) (n + M'.rm.slots) (pc + 3) ls (.int (nI r) :: st)) : V E cc own M Po Px X h k n pc ls (a2 :: a1 :: st) := g_callS (av := [a1, a2]) hc hk hlk hR hf rfl hcat d kx (fun v h' z => by
    obtain ⟨r, rfl, p⟩ := z
    exact kk r h' p)
theorem g_S2l0 {index : Nat} {cc' : ByteArray} {M' : GM} {a1 a2 : Value} {P : Int64 → AH → Prop} (hc : Ct E cc' M' [a1, a2] h (pL (fun r h' => P r h')) noX) (hk : gCs cc' M' 2) (hlk : Cond.methodLink own index M'.y ∈ lw_all) (hR : M'.rm.frames + 1 ≤ M.rm.frames ∧ 8 + (M'.nL + 11) + M'.rm.locals ≤ M.rm.locals) (hz : M'.rm.cells = 0 ∧ M'.rm.slots = 0) (hf : k ≤ M.rm.cells ∧ n ≤ M.rm.slots) (hcat : (st.map fun v => v.category).sum ≤ 8) (d : decode cc pc = .ok (.invokestatic index, 3)) (kk : ∀ (r : Int64) (h' : AH), P r h' → V E cc own M Po Px X h' k n (pc + 3) ls (.long r :: st)) : V E cc own M Po Px X h k n pc ls (a2 :: a1 :: st) := by
  obtain ⟨z1, z2⟩ := hz
  refine g_callS (av := [a1, a2]) hc hk hlk hR (by rw [z1, z2]; exact hf) rfl hcat d (fun _ _ _ z => z.elim) (fun v h' z => by
    obtain ⟨r, rfl, p⟩ := z
    rw [z1, z2]
    exact kk r h' p)
theorem g_S2l0x {index : Nat} {cc' : ByteArray} {M' : GM} {a1 a2 : Value} {P : Int64 → AH → Prop} {Px' : String → Nat → AH → Prop} (hc : Ct E cc' M' [a1, a2] h (pL (fun r h' => P r h')) Px') (hk : gCs cc' M' 2) (hlk : Cond.methodLink own index M'.y ∈ lw_all) (hR : M'.rm.frames + 1 ≤ M.rm.frames ∧ 8 + (M'.nL + 11) + M'.rm.locals ≤ M.rm.locals) (hz : M'.rm.cells = 0 ∧ M'.rm.slots = 0) (hf : k ≤ M.rm.cells ∧ n ≤ M.rm.slots) (hcat : (st.map fun v => v.category).sum ≤ 8) (d : decode cc pc = .ok (.invokestatic index, 3)) (kx : ∀ (C : String) (q : Nat) (h' : AH), Px' C q h' → VX E cc own M Po Px X h' k n pc ls C q) (kk : ∀ (r : Int64) (h' : AH), P r h' → V E cc own M Po Px X h' k n (pc + 3) ls (.long r :: st)) : V E cc own M Po Px X h k n pc ls (a2 :: a1 :: st) := by
  obtain ⟨z1, z2⟩ := hz
  refine g_callS (av := [a1, a2]) hc hk hlk hR (by rw [z1, z2]; exact hf) rfl hcat d (fun C q h' z => by rw [z1, z2]; exact kx C q h' z) (fun v h' z => by
    obtain ⟨r, rfl, p⟩ := z
    rw [z1, z2]
    exact kk r h' p)
theorem g_S2l {index : Nat} {cc' : ByteArray} {M' : GM} {a1 a2 : Value} {P : Int64 → AH → Prop} (hc : Ct E cc' M' [a1, a2] h (pL (fun r h' => P r h')) noX) (hk : gCs cc' M' 2) (hlk : Cond.methodLink own index M'.y ∈ lw_all) (hR : M'.rm.frames + 1 ≤ M.rm.frames ∧ 8 + (M'.nL + 11) + M'.rm.locals ≤ M.rm.locals) (hf : k + M'.rm.cells ≤ M.rm.cells ∧ n + M'.rm.slots ≤ M.rm.slots) (hcat : (st.map fun v => v.category).sum ≤ 8) (d : decode cc pc = .ok (.invokestatic index, 3)) (kk : ∀ (r : Int64) (h' : AH), P r h' → V E cc own M Po Px X h' (k + M'.rm.cells) (n + M'.rm.slots) (pc + 3) ls (.long r :: st)) : V E cc own M Po Px X h k n pc ls (a2 :: a1 :: st) := g_callS (av := [a1, a2]) hc hk hlk hR hf rfl hcat d (fun _ _ _ z => z.elim) (fun v h' z => by
    obtain ⟨r, rfl, p⟩ := z
    exact kk r h' p)
theorem g_S2lx {index : Nat} {cc' : ByteArray} {M' : GM} {a1 a2 : Value} {P : Int64 → AH → Prop} {Px' : String → Nat → AH → Prop} (hc : Ct E cc' M' [a1, a2] h (pL (fun r h' => P r h')) Px') (hk : gCs cc' M' 2) (hlk : Cond.methodLink own index M'.y ∈ lw_all) (hR : M'.rm.frames + 1 ≤ M.rm.frames ∧ 8 + (M'.nL + 11) + M'.rm.locals ≤ M.rm.locals) (hf : k + M'.rm.cells ≤ M.rm.cells ∧ n + M'.rm.slots ≤ M.rm.slots) (hcat : (st.map fun v => v.category).sum ≤ 8) (d : decode cc pc = .ok (.invokestatic index, 3)) (kx : ∀ (C : String) (q : Nat) (h' : AH), Px' C q h' → VX E cc own M Po Px X h' (k + M'.rm.cells) (n + M'.rm.slots) pc ls C q) (kk : ∀ (r : Int64) (h' : AH), P r h' → V E cc own M Po Px X h' (k + M'.rm.cells) (n + M'.rm.slots) (pc + 3) ls (.long r :: st)) : V E cc own M Po Px X h k n pc ls (a2 :: a1 :: st) := g_callS (av := [a1, a2]) hc hk hlk hR hf rfl hcat d kx (fun v h' z => by
    obtain ⟨r, rfl, p⟩ := z
    exact kk r h' p)
theorem g_S2r0 {index : Nat} {cc' : ByteArray} {M' : GM} {a1 a2 : Value} {P : Nat → AH → Prop} (hc : Ct E cc' M' [a1, a2] h (pR (fun r h' => P r h')) noX) (hk : gCs cc' M' 2) (hlk : Cond.methodLink own index M'.y ∈ lw_all) (hR : M'.rm.frames + 1 ≤ M.rm.frames ∧ 8 + (M'.nL + 11) + M'.rm.locals ≤ M.rm.locals) (hz : M'.rm.cells = 0 ∧ M'.rm.slots = 0) (hf : k ≤ M.rm.cells ∧ n ≤ M.rm.slots) (hcat : (st.map fun v => v.category).sum ≤ 8) (d : decode cc pc = .ok (.invokestatic index, 3)) (kk : ∀ (r : Nat) (h' : AH), P r h' → V E cc own M Po Px X h' k n (pc + 3) ls (.ref r :: st)) : V E cc own M Po Px X h k n pc ls (a2 :: a1 :: st) := by
  obtain ⟨z1, z2⟩ := hz
  refine g_callS (av := [a1, a2]) hc hk hlk hR (by rw [z1, z2]; exact hf) rfl hcat d (fun _ _ _ z => z.elim) (fun v h' z => by
    obtain ⟨r, rfl, p⟩ := z
    rw [z1, z2]
    exact kk r h' p)
theorem g_S2r0x {index : Nat} {cc' : ByteArray} {M' : GM} {a1 a2 : Value} {P : Nat → AH → Prop} {Px' : String → Nat → AH → Prop} (hc : Ct E cc' M' [a1, a2] h (pR (fun r h' => P r h')) Px') (hk : gCs cc' M' 2) (hlk : Cond.methodLink own index M'.y ∈ lw_all) (hR : M'.rm.frames + 1 ≤ M.rm.frames ∧ 8 + (M'.nL + 11) + M'.rm.locals ≤ M.rm.locals) (hz : M'.rm.cells = 0 ∧ M'.rm.slots = 0) (hf : k ≤ M.rm.cells ∧ n ≤ M.rm.slots) (hcat : (st.map fun v => v.category).sum ≤ 8) (d : decode cc pc = .ok (.invokestatic index, 3)) (kx : ∀ (C : String) (q : Nat) (h' : AH), Px' C q h' → VX E cc own M Po Px X h' k n pc ls C q) (kk : ∀ (r : Nat) (h' : AH), P r h' → V E cc own M Po Px X h' k n (pc + 3) ls (.ref r :: st)) : V E cc own M Po Px X h k n pc ls (a2 :: a1 :: st) := by
  obtain ⟨z1, z2⟩ := hz
  refine g_callS (av := [a1, a2]) hc hk hlk hR (by rw [z1, z2]; exact hf) rfl hcat d (fun C q h' z => by rw [z1, z2]; exact kx C q h' z) (fun v h' z => by
    obtain ⟨r, rfl, p⟩ := z
    rw [z1, z2]
    exact kk r h' p)
theorem g_S2r {index : Nat} {cc' : ByteArray} {M' : GM} {a1 a2 : Value} {P : Nat → AH → Prop} (hc : Ct E cc' M' [a1, a2] h (pR (fun r h' => P r h')) noX) (hk : gCs cc' M' 2) (hlk : Cond.methodLink own index M'.y ∈ lw_all) (hR : M'.rm.frames + 1 ≤ M.rm.frames ∧ 8 + (M'.nL + 11) + M'.rm.locals ≤ M.rm.locals) (hf : k + M'.rm.cells ≤ M.rm.cells ∧ n + M'.rm.slots ≤ M.rm.slots) (hcat : (st.map fun v => v.category).sum ≤ 8) (d : decode cc pc = .ok (.invokestatic index, 3)) (kk : ∀ (r : Nat) (h' : AH), P r h' → V E cc own M Po Px X h' (k + M'.rm.cells) (n + M'.rm.slots) (pc + 3) ls (.ref r :: st)) : V E cc own M Po Px X h k n pc ls (a2 :: a1 :: st) := g_callS (av := [a1, a2]) hc hk hlk hR hf rfl hcat d (fun _ _ _ z => z.elim) (fun v h' z => by
    obtain ⟨r, rfl, p⟩ := z
    exact kk r h' p)
theorem g_S2rx {index : Nat} {cc' : ByteArray} {M' : GM} {a1 a2 : Value} {P : Nat → AH → Prop} {Px' : String → Nat → AH → Prop} (hc : Ct E cc' M' [a1, a2] h (pR (fun r h' => P r h')) Px') (hk : gCs cc' M' 2) (hlk : Cond.methodLink own index M'.y ∈ lw_all) (hR : M'.rm.frames + 1 ≤ M.rm.frames ∧ 8 + (M'.nL + 11) + M'.rm.locals ≤ M.rm.locals) (hf : k + M'.rm.cells ≤ M.rm.cells ∧ n + M'.rm.slots ≤ M.rm.slots) (hcat : (st.map fun v => v.category).sum ≤ 8) (d : decode cc pc = .ok (.invokestatic index, 3)) (kx : ∀ (C : String) (q : Nat) (h' : AH), Px' C q h' → VX E cc own M Po Px X h' (k + M'.rm.cells) (n + M'.rm.slots) pc ls C q) (kk : ∀ (r : Nat) (h' : AH), P r h' → V E cc own M Po Px X h' (k + M'.rm.cells) (n + M'.rm.slots) (pc + 3) ls (.ref r :: st)) : V E cc own M Po Px X h k n pc ls (a2 :: a1 :: st) := g_callS (av := [a1, a2]) hc hk hlk hR hf rfl hcat d kx (fun v h' z => by
    obtain ⟨r, rfl, p⟩ := z
    exact kk r h' p)
theorem g_S2q0 {index : Nat} {cc' : ByteArray} {M' : GM} {a1 a2 : Value} {P : Option Nat → AH → Prop} (hc : Ct E cc' M' [a1, a2] h (pQ (fun r h' => P r h')) noX) (hk : gCs cc' M' 2) (hlk : Cond.methodLink own index M'.y ∈ lw_all) (hR : M'.rm.frames + 1 ≤ M.rm.frames ∧ 8 + (M'.nL + 11) + M'.rm.locals ≤ M.rm.locals) (hz : M'.rm.cells = 0 ∧ M'.rm.slots = 0) (hf : k ≤ M.rm.cells ∧ n ≤ M.rm.slots) (hcat : (st.map fun v => v.category).sum ≤ 8) (d : decode cc pc = .ok (.invokestatic index, 3)) (kk : ∀ (r : Option Nat) (h' : AH), P r h' → V E cc own M Po Px X h' k n (pc + 3) ls (va_rf r :: st)) : V E cc own M Po Px X h k n pc ls (a2 :: a1 :: st) := by
  obtain ⟨z1, z2⟩ := hz
  refine g_callS (av := [a1, a2]) hc hk hlk hR (by rw [z1, z2]; exact hf) rfl hcat d (fun _ _ _ z => z.elim) (fun v h' z => by
    obtain ⟨r, rfl, p⟩ := z
    rw [z1, z2]
    exact kk r h' p)
theorem g_S2q0x {index : Nat} {cc' : ByteArray} {M' : GM} {a1 a2 : Value} {P : Option Nat → AH → Prop} {Px' : String → Nat → AH → Prop} (hc : Ct E cc' M' [a1, a2] h (pQ (fun r h' => P r h')) Px') (hk : gCs cc' M' 2) (hlk : Cond.methodLink own index M'.y ∈ lw_all) (hR : M'.rm.frames + 1 ≤ M.rm.frames ∧ 8 + (M'.nL + 11) + M'.rm.locals ≤ M.rm.locals) (hz : M'.rm.cells = 0 ∧ M'.rm.slots = 0) (hf : k ≤ M.rm.cells ∧ n ≤ M.rm.slots) (hcat : (st.map fun v => v.category).sum ≤ 8) (d : decode cc pc = .ok (.invokestatic index, 3)) (kx : ∀ (C : String) (q : Nat) (h' : AH), Px' C q h' → VX E cc own M Po Px X h' k n pc ls C q) (kk : ∀ (r : Option Nat) (h' : AH), P r h' → V E cc own M Po Px X h' k n (pc + 3) ls (va_rf r :: st)) : V E cc own M Po Px X h k n pc ls (a2 :: a1 :: st) := by
  obtain ⟨z1, z2⟩ := hz
  refine g_callS (av := [a1, a2]) hc hk hlk hR (by rw [z1, z2]; exact hf) rfl hcat d (fun C q h' z => by rw [z1, z2]; exact kx C q h' z) (fun v h' z => by
    obtain ⟨r, rfl, p⟩ := z
    rw [z1, z2]
    exact kk r h' p)
theorem g_S2q {index : Nat} {cc' : ByteArray} {M' : GM} {a1 a2 : Value} {P : Option Nat → AH → Prop} (hc : Ct E cc' M' [a1, a2] h (pQ (fun r h' => P r h')) noX) (hk : gCs cc' M' 2) (hlk : Cond.methodLink own index M'.y ∈ lw_all) (hR : M'.rm.frames + 1 ≤ M.rm.frames ∧ 8 + (M'.nL + 11) + M'.rm.locals ≤ M.rm.locals) (hf : k + M'.rm.cells ≤ M.rm.cells ∧ n + M'.rm.slots ≤ M.rm.slots) (hcat : (st.map fun v => v.category).sum ≤ 8) (d : decode cc pc = .ok (.invokestatic index, 3)) (kk : ∀ (r : Option Nat) (h' : AH), P r h' → V E cc own M Po Px X h' (k + M'.rm.cells) (n + M'.rm.slots) (pc + 3) ls (va_rf r :: st)) : V E cc own M Po Px X h k n pc ls (a2 :: a1 :: st) := g_callS (av := [a1, a2]) hc hk hlk hR hf rfl hcat d (fun _ _ _ z => z.elim) (fun v h' z => by
    obtain ⟨r, rfl, p⟩ := z
    exact kk r h' p)
theorem g_S2qx {index : Nat} {cc' : ByteArray} {M' : GM} {a1 a2 : Value} {P : Option Nat → AH → Prop} {Px' : String → Nat → AH → Prop} (hc : Ct E cc' M' [a1, a2] h (pQ (fun r h' => P r h')) Px') (hk : gCs cc' M' 2) (hlk : Cond.methodLink own index M'.y ∈ lw_all) (hR : M'.rm.frames + 1 ≤ M.rm.frames ∧ 8 + (M'.nL + 11) + M'.rm.locals ≤ M.rm.locals) (hf : k + M'.rm.cells ≤ M.rm.cells ∧ n + M'.rm.slots ≤ M.rm.slots) (hcat : (st.map fun v => v.category).sum ≤ 8) (d : decode cc pc = .ok (.invokestatic index, 3)) (kx : ∀ (C : String) (q : Nat) (h' : AH), Px' C q h' → VX E cc own M Po Px X h' (k + M'.rm.cells) (n + M'.rm.slots) pc ls C q) (kk : ∀ (r : Option Nat) (h' : AH), P r h' → V E cc own M Po Px X h' (k + M'.rm.cells) (n + M'.rm.slots) (pc + 3) ls (va_rf r :: st)) : V E cc own M Po Px X h k n pc ls (a2 :: a1 :: st) := g_callS (av := [a1, a2]) hc hk hlk hR hf rfl hcat d kx (fun v h' z => by
    obtain ⟨r, rfl, p⟩ := z
    exact kk r h' p)
theorem g_S2v0 {index : Nat} {cc' : ByteArray} {M' : GM} {a1 a2 : Value} {P : AH → Prop} (hc : Ct E cc' M' [a1, a2] h (pV (fun h' => P h')) noX) (hk : gCs cc' M' 2) (hlk : Cond.methodLink own index M'.y ∈ lw_all) (hR : M'.rm.frames + 1 ≤ M.rm.frames ∧ 8 + (M'.nL + 11) + M'.rm.locals ≤ M.rm.locals) (hz : M'.rm.cells = 0 ∧ M'.rm.slots = 0) (hf : k ≤ M.rm.cells ∧ n ≤ M.rm.slots) (hcat : (st.map fun v => v.category).sum ≤ 8) (d : decode cc pc = .ok (.invokestatic index, 3)) (kk : ∀ (h' : AH), P h' → V E cc own M Po Px X h' k n (pc + 3) ls st) : V E cc own M Po Px X h k n pc ls (a2 :: a1 :: st) := by
  obtain ⟨z1, z2⟩ := hz
  refine g_callS (av := [a1, a2]) hc hk hlk hR (by rw [z1, z2]; exact hf) rfl hcat d (fun _ _ _ z => z.elim) (fun v h' z => by
    obtain ⟨rfl, p⟩ := z
    rw [z1, z2]
    exact kk h' p)
theorem g_S2v0x {index : Nat} {cc' : ByteArray} {M' : GM} {a1 a2 : Value} {P : AH → Prop} {Px' : String → Nat → AH → Prop} (hc : Ct E cc' M' [a1, a2] h (pV (fun h' => P h')) Px') (hk : gCs cc' M' 2) (hlk : Cond.methodLink own index M'.y ∈ lw_all) (hR : M'.rm.frames + 1 ≤ M.rm.frames ∧ 8 + (M'.nL + 11) + M'.rm.locals ≤ M.rm.locals) (hz : M'.rm.cells = 0 ∧ M'.rm.slots = 0) (hf : k ≤ M.rm.cells ∧ n ≤ M.rm.slots) (hcat : (st.map fun v => v.category).sum ≤ 8) (d : decode cc pc = .ok (.invokestatic index, 3)) (kx : ∀ (C : String) (q : Nat) (h' : AH), Px' C q h' → VX E cc own M Po Px X h' k n pc ls C q) (kk : ∀ (h' : AH), P h' → V E cc own M Po Px X h' k n (pc + 3) ls st) : V E cc own M Po Px X h k n pc ls (a2 :: a1 :: st) := by
  obtain ⟨z1, z2⟩ := hz
  refine g_callS (av := [a1, a2]) hc hk hlk hR (by rw [z1, z2]; exact hf) rfl hcat d (fun C q h' z => by rw [z1, z2]; exact kx C q h' z) (fun v h' z => by
    obtain ⟨rfl, p⟩ := z
    rw [z1, z2]
    exact kk h' p)
theorem g_S2v {index : Nat} {cc' : ByteArray} {M' : GM} {a1 a2 : Value} {P : AH → Prop} (hc : Ct E cc' M' [a1, a2] h (pV (fun h' => P h')) noX) (hk : gCs cc' M' 2) (hlk : Cond.methodLink own index M'.y ∈ lw_all) (hR : M'.rm.frames + 1 ≤ M.rm.frames ∧ 8 + (M'.nL + 11) + M'.rm.locals ≤ M.rm.locals) (hf : k + M'.rm.cells ≤ M.rm.cells ∧ n + M'.rm.slots ≤ M.rm.slots) (hcat : (st.map fun v => v.category).sum ≤ 8) (d : decode cc pc = .ok (.invokestatic index, 3)) (kk : ∀ (h' : AH), P h' → V E cc own M Po Px X h' (k + M'.rm.cells) (n + M'.rm.slots) (pc + 3) ls st) : V E cc own M Po Px X h k n pc ls (a2 :: a1 :: st) := g_callS (av := [a1, a2]) hc hk hlk hR hf rfl hcat d (fun _ _ _ z => z.elim) (fun v h' z => by
    obtain ⟨rfl, p⟩ := z
    exact kk h' p)
theorem g_S2vx {index : Nat} {cc' : ByteArray} {M' : GM} {a1 a2 : Value} {P : AH → Prop} {Px' : String → Nat → AH → Prop} (hc : Ct E cc' M' [a1, a2] h (pV (fun h' => P h')) Px') (hk : gCs cc' M' 2) (hlk : Cond.methodLink own index M'.y ∈ lw_all) (hR : M'.rm.frames + 1 ≤ M.rm.frames ∧ 8 + (M'.nL + 11) + M'.rm.locals ≤ M.rm.locals) (hf : k + M'.rm.cells ≤ M.rm.cells ∧ n + M'.rm.slots ≤ M.rm.slots) (hcat : (st.map fun v => v.category).sum ≤ 8) (d : decode cc pc = .ok (.invokestatic index, 3)) (kx : ∀ (C : String) (q : Nat) (h' : AH), Px' C q h' → VX E cc own M Po Px X h' (k + M'.rm.cells) (n + M'.rm.slots) pc ls C q) (kk : ∀ (h' : AH), P h' → V E cc own M Po Px X h' (k + M'.rm.cells) (n + M'.rm.slots) (pc + 3) ls st) : V E cc own M Po Px X h k n pc ls (a2 :: a1 :: st) := g_callS (av := [a1, a2]) hc hk hlk hR hf rfl hcat d kx (fun v h' z => by
    obtain ⟨rfl, p⟩ := z
    exact kk h' p)
theorem g_S3i0 {index : Nat} {cc' : ByteArray} {M' : GM} {a1 a2 a3 : Value} {P : Int32 → AH → Prop} (hc : Ct E cc' M' [a1, a2, a3] h (pI (fun r h' => P r h')) noX) (hk : gCs cc' M' 3) (hlk : Cond.methodLink own index M'.y ∈ lw_all) (hR : M'.rm.frames + 1 ≤ M.rm.frames ∧ 8 + (M'.nL + 11) + M'.rm.locals ≤ M.rm.locals) (hz : M'.rm.cells = 0 ∧ M'.rm.slots = 0) (hf : k ≤ M.rm.cells ∧ n ≤ M.rm.slots) (hcat : (st.map fun v => v.category).sum ≤ 8) (d : decode cc pc = .ok (.invokestatic index, 3)) (kk : ∀ (r : Int32) (h' : AH), P r h' → V E cc own M Po Px X h' k n (pc + 3) ls (.int r :: st)) : V E cc own M Po Px X h k n pc ls (a3 :: a2 :: a1 :: st) := by
  obtain ⟨z1, z2⟩ := hz
  refine g_callS (av := [a1, a2, a3]) hc hk hlk hR (by rw [z1, z2]; exact hf) rfl hcat d (fun _ _ _ z => z.elim) (fun v h' z => by
    obtain ⟨r, rfl, p⟩ := z
    rw [z1, z2]
    exact kk r h' p)
theorem g_S3i0x {index : Nat} {cc' : ByteArray} {M' : GM} {a1 a2 a3 : Value} {P : Int32 → AH → Prop} {Px' : String → Nat → AH → Prop} (hc : Ct E cc' M' [a1, a2, a3] h (pI (fun r h' => P r h')) Px') (hk : gCs cc' M' 3) (hlk : Cond.methodLink own index M'.y ∈ lw_all) (hR : M'.rm.frames + 1 ≤ M.rm.frames ∧ 8 + (M'.nL + 11) + M'.rm.locals ≤ M.rm.locals) (hz : M'.rm.cells = 0 ∧ M'.rm.slots = 0) (hf : k ≤ M.rm.cells ∧ n ≤ M.rm.slots) (hcat : (st.map fun v => v.category).sum ≤ 8) (d : decode cc pc = .ok (.invokestatic index, 3)) (kx : ∀ (C : String) (q : Nat) (h' : AH), Px' C q h' → VX E cc own M Po Px X h' k n pc ls C q) (kk : ∀ (r : Int32) (h' : AH), P r h' → V E cc own M Po Px X h' k n (pc + 3) ls (.int r :: st)) : V E cc own M Po Px X h k n pc ls (a3 :: a2 :: a1 :: st) := by
  obtain ⟨z1, z2⟩ := hz
  refine g_callS (av := [a1, a2, a3]) hc hk hlk hR (by rw [z1, z2]; exact hf) rfl hcat d (fun C q h' z => by rw [z1, z2]; exact kx C q h' z) (fun v h' z => by
    obtain ⟨r, rfl, p⟩ := z
    rw [z1, z2]
    exact kk r h' p)
theorem g_S3i {index : Nat} {cc' : ByteArray} {M' : GM} {a1 a2 a3 : Value} {P : Int32 → AH → Prop} (hc : Ct E cc' M' [a1, a2, a3] h (pI (fun r h' => P r h')) noX) (hk : gCs cc' M' 3) (hlk : Cond.methodLink own index M'.y ∈ lw_all) (hR : M'.rm.frames + 1 ≤ M.rm.frames ∧ 8 + (M'.nL + 11) + M'.rm.locals ≤ M.rm.locals) (hf : k + M'.rm.cells ≤ M.rm.cells ∧ n + M'.rm.slots ≤ M.rm.slots) (hcat : (st.map fun v => v.category).sum ≤ 8) (d : decode cc pc = .ok (.invokestatic index, 3)) (kk : ∀ (r : Int32) (h' : AH), P r h' → V E cc own M Po Px X h' (k + M'.rm.cells) (n + M'.rm.slots) (pc + 3) ls (.int r :: st)) : V E cc own M Po Px X h k n pc ls (a3 :: a2 :: a1 :: st) := g_callS (av := [a1, a2, a3]) hc hk hlk hR hf rfl hcat d (fun _ _ _ z => z.elim) (fun v h' z => by
    obtain ⟨r, rfl, p⟩ := z
    exact kk r h' p)
theorem g_S3ix {index : Nat} {cc' : ByteArray} {M' : GM} {a1 a2 a3 : Value} {P : Int32 → AH → Prop} {Px' : String → Nat → AH → Prop} (hc : Ct E cc' M' [a1, a2, a3] h (pI (fun r h' => P r h')) Px') (hk : gCs cc' M' 3) (hlk : Cond.methodLink own index M'.y ∈ lw_all) (hR : M'.rm.frames + 1 ≤ M.rm.frames ∧ 8 + (M'.nL + 11) + M'.rm.locals ≤ M.rm.locals) (hf : k + M'.rm.cells ≤ M.rm.cells ∧ n + M'.rm.slots ≤ M.rm.slots) (hcat : (st.map fun v => v.category).sum ≤ 8) (d : decode cc pc = .ok (.invokestatic index, 3)) (kx : ∀ (C : String) (q : Nat) (h' : AH), Px' C q h' → VX E cc own M Po Px X h' (k + M'.rm.cells) (n + M'.rm.slots) pc ls C q) (kk : ∀ (r : Int32) (h' : AH), P r h' → V E cc own M Po Px X h' (k + M'.rm.cells) (n + M'.rm.slots) (pc + 3) ls (.int r :: st)) : V E cc own M Po Px X h k n pc ls (a3 :: a2 :: a1 :: st) := g_callS (av := [a1, a2, a3]) hc hk hlk hR hf rfl hcat d kx (fun v h' z => by
    obtain ⟨r, rfl, p⟩ := z
    exact kk r h' p)
theorem g_S3n0 {index : Nat} {cc' : ByteArray} {M' : GM} {a1 a2 a3 : Value} {P : Nat → AH → Prop} (hc : Ct E cc' M' [a1, a2, a3] h (pN (fun r h' => P r h')) noX) (hk : gCs cc' M' 3) (hlk : Cond.methodLink own index M'.y ∈ lw_all) (hR : M'.rm.frames + 1 ≤ M.rm.frames ∧ 8 + (M'.nL + 11) + M'.rm.locals ≤ M.rm.locals) (hz : M'.rm.cells = 0 ∧ M'.rm.slots = 0) (hf : k ≤ M.rm.cells ∧ n ≤ M.rm.slots) (hcat : (st.map fun v => v.category).sum ≤ 8) (d : decode cc pc = .ok (.invokestatic index, 3)) (kk : ∀ (r : Nat) (h' : AH), P r h' → V E cc own M Po Px X h' k n (pc + 3) ls (.int (nI r) :: st)) : V E cc own M Po Px X h k n pc ls (a3 :: a2 :: a1 :: st) := by
  obtain ⟨z1, z2⟩ := hz
  refine g_callS (av := [a1, a2, a3]) hc hk hlk hR (by rw [z1, z2]; exact hf) rfl hcat d (fun _ _ _ z => z.elim) (fun v h' z => by
    obtain ⟨r, rfl, p⟩ := z
    rw [z1, z2]
    exact kk r h' p)
theorem g_S3n0x {index : Nat} {cc' : ByteArray} {M' : GM} {a1 a2 a3 : Value} {P : Nat → AH → Prop} {Px' : String → Nat → AH → Prop} (hc : Ct E cc' M' [a1, a2, a3] h (pN (fun r h' => P r h')) Px') (hk : gCs cc' M' 3) (hlk : Cond.methodLink own index M'.y ∈ lw_all) (hR : M'.rm.frames + 1 ≤ M.rm.frames ∧ 8 + (M'.nL + 11) + M'.rm.locals ≤ M.rm.locals) (hz : M'.rm.cells = 0 ∧ M'.rm.slots = 0) (hf : k ≤ M.rm.cells ∧ n ≤ M.rm.slots) (hcat : (st.map fun v => v.category).sum ≤ 8) (d : decode cc pc = .ok (.invokestatic index, 3)) (kx : ∀ (C : String) (q : Nat) (h' : AH), Px' C q h' → VX E cc own M Po Px X h' k n pc ls C q) (kk : ∀ (r : Nat) (h' : AH), P r h' → V E cc own M Po Px X h' k n (pc + 3) ls (.int (nI r) :: st)) : V E cc own M Po Px X h k n pc ls (a3 :: a2 :: a1 :: st) := by
  obtain ⟨z1, z2⟩ := hz
  refine g_callS (av := [a1, a2, a3]) hc hk hlk hR (by rw [z1, z2]; exact hf) rfl hcat d (fun C q h' z => by rw [z1, z2]; exact kx C q h' z) (fun v h' z => by
    obtain ⟨r, rfl, p⟩ := z
    rw [z1, z2]
    exact kk r h' p)
theorem g_S3n {index : Nat} {cc' : ByteArray} {M' : GM} {a1 a2 a3 : Value} {P : Nat → AH → Prop} (hc : Ct E cc' M' [a1, a2, a3] h (pN (fun r h' => P r h')) noX) (hk : gCs cc' M' 3) (hlk : Cond.methodLink own index M'.y ∈ lw_all) (hR : M'.rm.frames + 1 ≤ M.rm.frames ∧ 8 + (M'.nL + 11) + M'.rm.locals ≤ M.rm.locals) (hf : k + M'.rm.cells ≤ M.rm.cells ∧ n + M'.rm.slots ≤ M.rm.slots) (hcat : (st.map fun v => v.category).sum ≤ 8) (d : decode cc pc = .ok (.invokestatic index, 3)) (kk : ∀ (r : Nat) (h' : AH), P r h' → V E cc own M Po Px X h' (k + M'.rm.cells) (n + M'.rm.slots) (pc + 3) ls (.int (nI r) :: st)) : V E cc own M Po Px X h k n pc ls (a3 :: a2 :: a1 :: st) := g_callS (av := [a1, a2, a3]) hc hk hlk hR hf rfl hcat d (fun _ _ _ z => z.elim) (fun v h' z => by
    obtain ⟨r, rfl, p⟩ := z
    exact kk r h' p)
theorem g_S3nx {index : Nat} {cc' : ByteArray} {M' : GM} {a1 a2 a3 : Value} {P : Nat → AH → Prop} {Px' : String → Nat → AH → Prop} (hc : Ct E cc' M' [a1, a2, a3] h (pN (fun r h' => P r h')) Px') (hk : gCs cc' M' 3) (hlk : Cond.methodLink own index M'.y ∈ lw_all) (hR : M'.rm.frames + 1 ≤ M.rm.frames ∧ 8 + (M'.nL + 11) + M'.rm.locals ≤ M.rm.locals) (hf : k + M'.rm.cells ≤ M.rm.cells ∧ n + M'.rm.slots ≤ M.rm.slots) (hcat : (st.map fun v => v.category).sum ≤ 8) (d : decode cc pc = .ok (.invokestatic index, 3)) (kx : ∀ (C : String) (q : Nat) (h' : AH), Px' C q h' → VX E cc own M Po Px X h' (k + M'.rm.cells) (n + M'.rm.slots) pc ls C q) (kk : ∀ (r : Nat) (h' : AH), P r h' → V E cc own M Po Px X h' (k + M'.rm.cells) (n + M'.rm.slots) (pc + 3) ls (.int (nI r) :: st)) : V E cc own M Po Px X h k n pc ls (a3 :: a2 :: a1 :: st) := g_callS (av := [a1, a2, a3]) hc hk hlk hR hf rfl hcat d kx (fun v h' z => by
    obtain ⟨r, rfl, p⟩ := z
    exact kk r h' p)
theorem g_S3l0 {index : Nat} {cc' : ByteArray} {M' : GM} {a1 a2 a3 : Value} {P : Int64 → AH → Prop} (hc : Ct E cc' M' [a1, a2, a3] h (pL (fun r h' => P r h')) noX) (hk : gCs cc' M' 3) (hlk : Cond.methodLink own index M'.y ∈ lw_all) (hR : M'.rm.frames + 1 ≤ M.rm.frames ∧ 8 + (M'.nL + 11) + M'.rm.locals ≤ M.rm.locals) (hz : M'.rm.cells = 0 ∧ M'.rm.slots = 0) (hf : k ≤ M.rm.cells ∧ n ≤ M.rm.slots) (hcat : (st.map fun v => v.category).sum ≤ 8) (d : decode cc pc = .ok (.invokestatic index, 3)) (kk : ∀ (r : Int64) (h' : AH), P r h' → V E cc own M Po Px X h' k n (pc + 3) ls (.long r :: st)) : V E cc own M Po Px X h k n pc ls (a3 :: a2 :: a1 :: st) := by
  obtain ⟨z1, z2⟩ := hz
  refine g_callS (av := [a1, a2, a3]) hc hk hlk hR (by rw [z1, z2]; exact hf) rfl hcat d (fun _ _ _ z => z.elim) (fun v h' z => by
    obtain ⟨r, rfl, p⟩ := z
    rw [z1, z2]
    exact kk r h' p)
theorem g_S3l0x {index : Nat} {cc' : ByteArray} {M' : GM} {a1 a2 a3 : Value} {P : Int64 → AH → Prop} {Px' : String → Nat → AH → Prop} (hc : Ct E cc' M' [a1, a2, a3] h (pL (fun r h' => P r h')) Px') (hk : gCs cc' M' 3) (hlk : Cond.methodLink own index M'.y ∈ lw_all) (hR : M'.rm.frames + 1 ≤ M.rm.frames ∧ 8 + (M'.nL + 11) + M'.rm.locals ≤ M.rm.locals) (hz : M'.rm.cells = 0 ∧ M'.rm.slots = 0) (hf : k ≤ M.rm.cells ∧ n ≤ M.rm.slots) (hcat : (st.map fun v => v.category).sum ≤ 8) (d : decode cc pc = .ok (.invokestatic index, 3)) (kx : ∀ (C : String) (q : Nat) (h' : AH), Px' C q h' → VX E cc own M Po Px X h' k n pc ls C q) (kk : ∀ (r : Int64) (h' : AH), P r h' → V E cc own M Po Px X h' k n (pc + 3) ls (.long r :: st)) : V E cc own M Po Px X h k n pc ls (a3 :: a2 :: a1 :: st) := by
  obtain ⟨z1, z2⟩ := hz
  refine g_callS (av := [a1, a2, a3]) hc hk hlk hR (by rw [z1, z2]; exact hf) rfl hcat d (fun C q h' z => by rw [z1, z2]; exact kx C q h' z) (fun v h' z => by
    obtain ⟨r, rfl, p⟩ := z
    rw [z1, z2]
    exact kk r h' p)
theorem g_S3l {index : Nat} {cc' : ByteArray} {M' : GM} {a1 a2 a3 : Value} {P : Int64 → AH → Prop} (hc : Ct E cc' M' [a1, a2, a3] h (pL (fun r h' => P r h')) noX) (hk : gCs cc' M' 3) (hlk : Cond.methodLink own index M'.y ∈ lw_all) (hR : M'.rm.frames + 1 ≤ M.rm.frames ∧ 8 + (M'.nL + 11) + M'.rm.locals ≤ M.rm.locals) (hf : k + M'.rm.cells ≤ M.rm.cells ∧ n + M'.rm.slots ≤ M.rm.slots) (hcat : (st.map fun v => v.category).sum ≤ 8) (d : decode cc pc = .ok (.invokestatic index, 3)) (kk : ∀ (r : Int64) (h' : AH), P r h' → V E cc own M Po Px X h' (k + M'.rm.cells) (n + M'.rm.slots) (pc + 3) ls (.long r :: st)) : V E cc own M Po Px X h k n pc ls (a3 :: a2 :: a1 :: st) := g_callS (av := [a1, a2, a3]) hc hk hlk hR hf rfl hcat d (fun _ _ _ z => z.elim) (fun v h' z => by
    obtain ⟨r, rfl, p⟩ := z
    exact kk r h' p)
theorem g_S3lx {index : Nat} {cc' : ByteArray} {M' : GM} {a1 a2 a3 : Value} {P : Int64 → AH → Prop} {Px' : String → Nat → AH → Prop} (hc : Ct E cc' M' [a1, a2, a3] h (pL (fun r h' => P r h')) Px') (hk : gCs cc' M' 3) (hlk : Cond.methodLink own index M'.y ∈ lw_all) (hR : M'.rm.frames + 1 ≤ M.rm.frames ∧ 8 + (M'.nL + 11) + M'.rm.locals ≤ M.rm.locals) (hf : k + M'.rm.cells ≤ M.rm.cells ∧ n + M'.rm.slots ≤ M.rm.slots) (hcat : (st.map fun v => v.category).sum ≤ 8) (d : decode cc pc = .ok (.invokestatic index, 3)) (kx : ∀ (C : String) (q : Nat) (h' : AH), Px' C q h' → VX E cc own M Po Px X h' (k + M'.rm.cells) (n + M'.rm.slots) pc ls C q) (kk : ∀ (r : Int64) (h' : AH), P r h' → V E cc own M Po Px X h' (k + M'.rm.cells) (n + M'.rm.slots) (pc + 3) ls (.long r :: st)) : V E cc own M Po Px X h k n pc ls (a3 :: a2 :: a1 :: st) := g_callS (av := [a1, a2, a3]) hc hk hlk hR hf rfl hcat d kx (fun v h' z => by
    obtain ⟨r, rfl, p⟩ := z
    exact kk r h' p)
theorem g_S3r0 {index : Nat} {cc' : ByteArray} {M' : GM} {a1 a2 a3 : Value} {P : Nat → AH → Prop} (hc : Ct E cc' M' [a1, a2, a3] h (pR (fun r h' => P r h')) noX) (hk : gCs cc' M' 3) (hlk : Cond.methodLink own index M'.y ∈ lw_all) (hR : M'.rm.frames + 1 ≤ M.rm.frames ∧ 8 + (M'.nL + 11) + M'.rm.locals ≤ M.rm.locals) (hz : M'.rm.cells = 0 ∧ M'.rm.slots = 0) (hf : k ≤ M.rm.cells ∧ n ≤ M.rm.slots) (hcat : (st.map fun v => v.category).sum ≤ 8) (d : decode cc pc = .ok (.invokestatic index, 3)) (kk : ∀ (r : Nat) (h' : AH), P r h' → V E cc own M Po Px X h' k n (pc + 3) ls (.ref r :: st)) : V E cc own M Po Px X h k n pc ls (a3 :: a2 :: a1 :: st) := by
  obtain ⟨z1, z2⟩ := hz
  refine g_callS (av := [a1, a2, a3]) hc hk hlk hR (by rw [z1, z2]; exact hf) rfl hcat d (fun _ _ _ z => z.elim) (fun v h' z => by
    obtain ⟨r, rfl, p⟩ := z
    rw [z1, z2]
    exact kk r h' p)
theorem g_S3r0x {index : Nat} {cc' : ByteArray} {M' : GM} {a1 a2 a3 : Value} {P : Nat → AH → Prop} {Px' : String → Nat → AH → Prop} (hc : Ct E cc' M' [a1, a2, a3] h (pR (fun r h' => P r h')) Px') (hk : gCs cc' M' 3) (hlk : Cond.methodLink own index M'.y ∈ lw_all) (hR : M'.rm.frames + 1 ≤ M.rm.frames ∧ 8 + (M'.nL + 11) + M'.rm.locals ≤ M.rm.locals) (hz : M'.rm.cells = 0 ∧ M'.rm.slots = 0) (hf : k ≤ M.rm.cells ∧ n ≤ M.rm.slots) (hcat : (st.map fun v => v.category).sum ≤ 8) (d : decode cc pc = .ok (.invokestatic index, 3)) (kx : ∀ (C : String) (q : Nat) (h' : AH), Px' C q h' → VX E cc own M Po Px X h' k n pc ls C q) (kk : ∀ (r : Nat) (h' : AH), P r h' → V E cc own M Po Px X h' k n (pc + 3) ls (.ref r :: st)) : V E cc own M Po Px X h k n pc ls (a3 :: a2 :: a1 :: st) := by
  obtain ⟨z1, z2⟩ := hz
  refine g_callS (av := [a1, a2, a3]) hc hk hlk hR (by rw [z1, z2]; exact hf) rfl hcat d (fun C q h' z => by rw [z1, z2]; exact kx C q h' z) (fun v h' z => by
    obtain ⟨r, rfl, p⟩ := z
    rw [z1, z2]
    exact kk r h' p)
theorem g_S3r {index : Nat} {cc' : ByteArray} {M' : GM} {a1 a2 a3 : Value} {P : Nat → AH → Prop} (hc : Ct E cc' M' [a1, a2, a3] h (pR (fun r h' => P r h')) noX) (hk : gCs cc' M' 3) (hlk : Cond.methodLink own index M'.y ∈ lw_all) (hR : M'.rm.frames + 1 ≤ M.rm.frames ∧ 8 + (M'.nL + 11) + M'.rm.locals ≤ M.rm.locals) (hf : k + M'.rm.cells ≤ M.rm.cells ∧ n + M'.rm.slots ≤ M.rm.slots) (hcat : (st.map fun v => v.category).sum ≤ 8) (d : decode cc pc = .ok (.invokestatic index, 3)) (kk : ∀ (r : Nat) (h' : AH), P r h' → V E cc own M Po Px X h' (k + M'.rm.cells) (n + M'.rm.slots) (pc + 3) ls (.ref r :: st)) : V E cc own M Po Px X h k n pc ls (a3 :: a2 :: a1 :: st) := g_callS (av := [a1, a2, a3]) hc hk hlk hR hf rfl hcat d (fun _ _ _ z => z.elim) (fun v h' z => by
    obtain ⟨r, rfl, p⟩ := z
    exact kk r h' p)
theorem g_S3rx {index : Nat} {cc' : ByteArray} {M' : GM} {a1 a2 a3 : Value} {P : Nat → AH → Prop} {Px' : String → Nat → AH → Prop} (hc : Ct E cc' M' [a1, a2, a3] h (pR (fun r h' => P r h')) Px') (hk : gCs cc' M' 3) (hlk : Cond.methodLink own index M'.y ∈ lw_all) (hR : M'.rm.frames + 1 ≤ M.rm.frames ∧ 8 + (M'.nL + 11) + M'.rm.locals ≤ M.rm.locals) (hf : k + M'.rm.cells ≤ M.rm.cells ∧ n + M'.rm.slots ≤ M.rm.slots) (hcat : (st.map fun v => v.category).sum ≤ 8) (d : decode cc pc = .ok (.invokestatic index, 3)) (kx : ∀ (C : String) (q : Nat) (h' : AH), Px' C q h' → VX E cc own M Po Px X h' (k + M'.rm.cells) (n + M'.rm.slots) pc ls C q) (kk : ∀ (r : Nat) (h' : AH), P r h' → V E cc own M Po Px X h' (k + M'.rm.cells) (n + M'.rm.slots) (pc + 3) ls (.ref r :: st)) : V E cc own M Po Px X h k n pc ls (a3 :: a2 :: a1 :: st) := g_callS (av := [a1, a2, a3]) hc hk hlk hR hf rfl hcat d kx (fun v h' z => by
    obtain ⟨r, rfl, p⟩ := z
    exact kk r h' p)
theorem g_S3q0 {index : Nat} {cc' : ByteArray} {M' : GM} {a1 a2 a3 : Value} {P : Option Nat → AH → Prop} (hc : Ct E cc' M' [a1, a2, a3] h (pQ (fun r h' => P r h')) noX) (hk : gCs cc' M' 3) (hlk : Cond.methodLink own index M'.y ∈ lw_all) (hR : M'.rm.frames + 1 ≤ M.rm.frames ∧ 8 + (M'.nL + 11) + M'.rm.locals ≤ M.rm.locals) (hz : M'.rm.cells = 0 ∧ M'.rm.slots = 0) (hf : k ≤ M.rm.cells ∧ n ≤ M.rm.slots) (hcat : (st.map fun v => v.category).sum ≤ 8) (d : decode cc pc = .ok (.invokestatic index, 3)) (kk : ∀ (r : Option Nat) (h' : AH), P r h' → V E cc own M Po Px X h' k n (pc + 3) ls (va_rf r :: st)) : V E cc own M Po Px X h k n pc ls (a3 :: a2 :: a1 :: st) := by
  obtain ⟨z1, z2⟩ := hz
  refine g_callS (av := [a1, a2, a3]) hc hk hlk hR (by rw [z1, z2]; exact hf) rfl hcat d (fun _ _ _ z => z.elim) (fun v h' z => by
    obtain ⟨r, rfl, p⟩ := z
    rw [z1, z2]
    exact kk r h' p)
theorem g_S3q0x {index : Nat} {cc' : ByteArray} {M' : GM} {a1 a2 a3 : Value} {P : Option Nat → AH → Prop} {Px' : String → Nat → AH → Prop} (hc : Ct E cc' M' [a1, a2, a3] h (pQ (fun r h' => P r h')) Px') (hk : gCs cc' M' 3) (hlk : Cond.methodLink own index M'.y ∈ lw_all) (hR : M'.rm.frames + 1 ≤ M.rm.frames ∧ 8 + (M'.nL + 11) + M'.rm.locals ≤ M.rm.locals) (hz : M'.rm.cells = 0 ∧ M'.rm.slots = 0) (hf : k ≤ M.rm.cells ∧ n ≤ M.rm.slots) (hcat : (st.map fun v => v.category).sum ≤ 8) (d : decode cc pc = .ok (.invokestatic index, 3)) (kx : ∀ (C : String) (q : Nat) (h' : AH), Px' C q h' → VX E cc own M Po Px X h' k n pc ls C q) (kk : ∀ (r : Option Nat) (h' : AH), P r h' → V E cc own M Po Px X h' k n (pc + 3) ls (va_rf r :: st)) : V E cc own M Po Px X h k n pc ls (a3 :: a2 :: a1 :: st) := by
  obtain ⟨z1, z2⟩ := hz
  refine g_callS (av := [a1, a2, a3]) hc hk hlk hR (by rw [z1, z2]; exact hf) rfl hcat d (fun C q h' z => by rw [z1, z2]; exact kx C q h' z) (fun v h' z => by
    obtain ⟨r, rfl, p⟩ := z
    rw [z1, z2]
    exact kk r h' p)
theorem g_S3q {index : Nat} {cc' : ByteArray} {M' : GM} {a1 a2 a3 : Value} {P : Option Nat → AH → Prop} (hc : Ct E cc' M' [a1, a2, a3] h (pQ (fun r h' => P r h')) noX) (hk : gCs cc' M' 3) (hlk : Cond.methodLink own index M'.y ∈ lw_all) (hR : M'.rm.frames + 1 ≤ M.rm.frames ∧ 8 + (M'.nL + 11) + M'.rm.locals ≤ M.rm.locals) (hf : k + M'.rm.cells ≤ M.rm.cells ∧ n + M'.rm.slots ≤ M.rm.slots) (hcat : (st.map fun v => v.category).sum ≤ 8) (d : decode cc pc = .ok (.invokestatic index, 3)) (kk : ∀ (r : Option Nat) (h' : AH), P r h' → V E cc own M Po Px X h' (k + M'.rm.cells) (n + M'.rm.slots) (pc + 3) ls (va_rf r :: st)) : V E cc own M Po Px X h k n pc ls (a3 :: a2 :: a1 :: st) := g_callS (av := [a1, a2, a3]) hc hk hlk hR hf rfl hcat d (fun _ _ _ z => z.elim) (fun v h' z => by
    obtain ⟨r, rfl, p⟩ := z
    exact kk r h' p)
theorem g_S3qx {index : Nat} {cc' : ByteArray} {M' : GM} {a1 a2 a3 : Value} {P : Option Nat → AH → Prop} {Px' : String → Nat → AH → Prop} (hc : Ct E cc' M' [a1, a2, a3] h (pQ (fun r h' => P r h')) Px') (hk : gCs cc' M' 3) (hlk : Cond.methodLink own index M'.y ∈ lw_all) (hR : M'.rm.frames + 1 ≤ M.rm.frames ∧ 8 + (M'.nL + 11) + M'.rm.locals ≤ M.rm.locals) (hf : k + M'.rm.cells ≤ M.rm.cells ∧ n + M'.rm.slots ≤ M.rm.slots) (hcat : (st.map fun v => v.category).sum ≤ 8) (d : decode cc pc = .ok (.invokestatic index, 3)) (kx : ∀ (C : String) (q : Nat) (h' : AH), Px' C q h' → VX E cc own M Po Px X h' (k + M'.rm.cells) (n + M'.rm.slots) pc ls C q) (kk : ∀ (r : Option Nat) (h' : AH), P r h' → V E cc own M Po Px X h' (k + M'.rm.cells) (n + M'.rm.slots) (pc + 3) ls (va_rf r :: st)) : V E cc own M Po Px X h k n pc ls (a3 :: a2 :: a1 :: st) := g_callS (av := [a1, a2, a3]) hc hk hlk hR hf rfl hcat d kx (fun v h' z => by
    obtain ⟨r, rfl, p⟩ := z
    exact kk r h' p)
theorem g_S3v0 {index : Nat} {cc' : ByteArray} {M' : GM} {a1 a2 a3 : Value} {P : AH → Prop} (hc : Ct E cc' M' [a1, a2, a3] h (pV (fun h' => P h')) noX) (hk : gCs cc' M' 3) (hlk : Cond.methodLink own index M'.y ∈ lw_all) (hR : M'.rm.frames + 1 ≤ M.rm.frames ∧ 8 + (M'.nL + 11) + M'.rm.locals ≤ M.rm.locals) (hz : M'.rm.cells = 0 ∧ M'.rm.slots = 0) (hf : k ≤ M.rm.cells ∧ n ≤ M.rm.slots) (hcat : (st.map fun v => v.category).sum ≤ 8) (d : decode cc pc = .ok (.invokestatic index, 3)) (kk : ∀ (h' : AH), P h' → V E cc own M Po Px X h' k n (pc + 3) ls st) : V E cc own M Po Px X h k n pc ls (a3 :: a2 :: a1 :: st) := by
  obtain ⟨z1, z2⟩ := hz
  refine g_callS (av := [a1, a2, a3]) hc hk hlk hR (by rw [z1, z2]; exact hf) rfl hcat d (fun _ _ _ z => z.elim) (fun v h' z => by
    obtain ⟨rfl, p⟩ := z
    rw [z1, z2]
    exact kk h' p)
theorem g_S3v0x {index : Nat} {cc' : ByteArray} {M' : GM} {a1 a2 a3 : Value} {P : AH → Prop} {Px' : String → Nat → AH → Prop} (hc : Ct E cc' M' [a1, a2, a3] h (pV (fun h' => P h')) Px') (hk : gCs cc' M' 3) (hlk : Cond.methodLink own index M'.y ∈ lw_all) (hR : M'.rm.frames + 1 ≤ M.rm.frames ∧ 8 + (M'.nL + 11) + M'.rm.locals ≤ M.rm.locals) (hz : M'.rm.cells = 0 ∧ M'.rm.slots = 0) (hf : k ≤ M.rm.cells ∧ n ≤ M.rm.slots) (hcat : (st.map fun v => v.category).sum ≤ 8) (d : decode cc pc = .ok (.invokestatic index, 3)) (kx : ∀ (C : String) (q : Nat) (h' : AH), Px' C q h' → VX E cc own M Po Px X h' k n pc ls C q) (kk : ∀ (h' : AH), P h' → V E cc own M Po Px X h' k n (pc + 3) ls st) : V E cc own M Po Px X h k n pc ls (a3 :: a2 :: a1 :: st) := by
  obtain ⟨z1, z2⟩ := hz
  refine g_callS (av := [a1, a2, a3]) hc hk hlk hR (by rw [z1, z2]; exact hf) rfl hcat d (fun C q h' z => by rw [z1, z2]; exact kx C q h' z) (fun v h' z => by
    obtain ⟨rfl, p⟩ := z
    rw [z1, z2]
    exact kk h' p)
theorem g_S3v {index : Nat} {cc' : ByteArray} {M' : GM} {a1 a2 a3 : Value} {P : AH → Prop} (hc : Ct E cc' M' [a1, a2, a3] h (pV (fun h' => P h')) noX) (hk : gCs cc' M' 3) (hlk : Cond.methodLink own index M'.y ∈ lw_all) (hR : M'.rm.frames + 1 ≤ M.rm.frames ∧ 8 + (M'.nL + 11) + M'.rm.locals ≤ M.rm.locals) (hf : k + M'.rm.cells ≤ M.rm.cells ∧ n + M'.rm.slots ≤ M.rm.slots) (hcat : (st.map fun v => v.category).sum ≤ 8) (d : decode cc pc = .ok (.invokestatic index, 3)) (kk : ∀ (h' : AH), P h' → V E cc own M Po Px X h' (k + M'.rm.cells) (n + M'.rm.slots) (pc + 3) ls st) : V E cc own M Po Px X h k n pc ls (a3 :: a2 :: a1 :: st) := g_callS (av := [a1, a2, a3]) hc hk hlk hR hf rfl hcat d (fun _ _ _ z => z.elim) (fun v h' z => by
    obtain ⟨rfl, p⟩ := z
    exact kk h' p)
theorem g_S3vx {index : Nat} {cc' : ByteArray} {M' : GM} {a1 a2 a3 : Value} {P : AH → Prop} {Px' : String → Nat → AH → Prop} (hc : Ct E cc' M' [a1, a2, a3] h (pV (fun h' => P h')) Px') (hk : gCs cc' M' 3) (hlk : Cond.methodLink own index M'.y ∈ lw_all) (hR : M'.rm.frames + 1 ≤ M.rm.frames ∧ 8 + (M'.nL + 11) + M'.rm.locals ≤ M.rm.locals) (hf : k + M'.rm.cells ≤ M.rm.cells ∧ n + M'.rm.slots ≤ M.rm.slots) (hcat : (st.map fun v => v.category).sum ≤ 8) (d : decode cc pc = .ok (.invokestatic index, 3)) (kx : ∀ (C : String) (q : Nat) (h' : AH), Px' C q h' → VX E cc own M Po Px X h' (k + M'.rm.cells) (n + M'.rm.slots) pc ls C q) (kk : ∀ (h' : AH), P h' → V E cc own M Po Px X h' (k + M'.rm.cells) (n + M'.rm.slots) (pc + 3) ls st) : V E cc own M Po Px X h k n pc ls (a3 :: a2 :: a1 :: st) := g_callS (av := [a1, a2, a3]) hc hk hlk hR hf rfl hcat d kx (fun v h' z => by
    obtain ⟨rfl, p⟩ := z
    exact kk h' p)
theorem g_S4i0 {index : Nat} {cc' : ByteArray} {M' : GM} {a1 a2 a3 a4 : Value} {P : Int32 → AH → Prop} (hc : Ct E cc' M' [a1, a2, a3, a4] h (pI (fun r h' => P r h')) noX) (hk : gCs cc' M' 4) (hlk : Cond.methodLink own index M'.y ∈ lw_all) (hR : M'.rm.frames + 1 ≤ M.rm.frames ∧ 8 + (M'.nL + 11) + M'.rm.locals ≤ M.rm.locals) (hz : M'.rm.cells = 0 ∧ M'.rm.slots = 0) (hf : k ≤ M.rm.cells ∧ n ≤ M.rm.slots) (hcat : (st.map fun v => v.category).sum ≤ 8) (d : decode cc pc = .ok (.invokestatic index, 3)) (kk : ∀ (r : Int32) (h' : AH), P r h' → V E cc own M Po Px X h' k n (pc + 3) ls (.int r :: st)) : V E cc own M Po Px X h k n pc ls (a4 :: a3 :: a2 :: a1 :: st) := by
  obtain ⟨z1, z2⟩ := hz
  refine g_callS (av := [a1, a2, a3, a4]) hc hk hlk hR (by rw [z1, z2]; exact hf) rfl hcat d (fun _ _ _ z => z.elim) (fun v h' z => by
    obtain ⟨r, rfl, p⟩ := z
    rw [z1, z2]
    exact kk r h' p)
theorem g_S4i0x {index : Nat} {cc' : ByteArray} {M' : GM} {a1 a2 a3 a4 : Value} {P : Int32 → AH → Prop} {Px' : String → Nat → AH → Prop} (hc : Ct E cc' M' [a1, a2, a3, a4] h (pI (fun r h' => P r h')) Px') (hk : gCs cc' M' 4) (hlk : Cond.methodLink own index M'.y ∈ lw_all) (hR : M'.rm.frames + 1 ≤ M.rm.frames ∧ 8 + (M'.nL + 11) + M'.rm.locals ≤ M.rm.locals) (hz : M'.rm.cells = 0 ∧ M'.rm.slots = 0) (hf : k ≤ M.rm.cells ∧ n ≤ M.rm.slots) (hcat : (st.map fun v => v.category).sum ≤ 8) (d : decode cc pc = .ok (.invokestatic index, 3)) (kx : ∀ (C : String) (q : Nat) (h' : AH), Px' C q h' → VX E cc own M Po Px X h' k n pc ls C q) (kk : ∀ (r : Int32) (h' : AH), P r h' → V E cc own M Po Px X h' k n (pc + 3) ls (.int r :: st)) : V E cc own M Po Px X h k n pc ls (a4 :: a3 :: a2 :: a1 :: st) := by
  obtain ⟨z1, z2⟩ := hz
  refine g_callS (av := [a1, a2, a3, a4]) hc hk hlk hR (by rw [z1, z2]; exact hf) rfl hcat d (fun C q h' z => by rw [z1, z2]; exact kx C q h' z) (fun v h' z => by
    obtain ⟨r, rfl, p⟩ := z
    rw [z1, z2]
    exact kk r h' p)
theorem g_S4i {index : Nat} {cc' : ByteArray} {M' : GM} {a1 a2 a3 a4 : Value} {P : Int32 → AH → Prop} (hc : Ct E cc' M' [a1, a2, a3, a4] h (pI (fun r h' => P r h')) noX) (hk : gCs cc' M' 4) (hlk : Cond.methodLink own index M'.y ∈ lw_all) (hR : M'.rm.frames + 1 ≤ M.rm.frames ∧ 8 + (M'.nL + 11) + M'.rm.locals ≤ M.rm.locals) (hf : k + M'.rm.cells ≤ M.rm.cells ∧ n + M'.rm.slots ≤ M.rm.slots) (hcat : (st.map fun v => v.category).sum ≤ 8) (d : decode cc pc = .ok (.invokestatic index, 3)) (kk : ∀ (r : Int32) (h' : AH), P r h' → V E cc own M Po Px X h' (k + M'.rm.cells) (n + M'.rm.slots) (pc + 3) ls (.int r :: st)) : V E cc own M Po Px X h k n pc ls (a4 :: a3 :: a2 :: a1 :: st) := g_callS (av := [a1, a2, a3, a4]) hc hk hlk hR hf rfl hcat d (fun _ _ _ z => z.elim) (fun v h' z => by
    obtain ⟨r, rfl, p⟩ := z
    exact kk r h' p)
theorem g_S4ix {index : Nat} {cc' : ByteArray} {M' : GM} {a1 a2 a3 a4 : Value} {P : Int32 → AH → Prop} {Px' : String → Nat → AH → Prop} (hc : Ct E cc' M' [a1, a2, a3, a4] h (pI (fun r h' => P r h')) Px') (hk : gCs cc' M' 4) (hlk : Cond.methodLink own index M'.y ∈ lw_all) (hR : M'.rm.frames + 1 ≤ M.rm.frames ∧ 8 + (M'.nL + 11) + M'.rm.locals ≤ M.rm.locals) (hf : k + M'.rm.cells ≤ M.rm.cells ∧ n + M'.rm.slots ≤ M.rm.slots) (hcat : (st.map fun v => v.category).sum ≤ 8) (d : decode cc pc = .ok (.invokestatic index, 3)) (kx : ∀ (C : String) (q : Nat) (h' : AH), Px' C q h' → VX E cc own M Po Px X h' (k + M'.rm.cells) (n + M'.rm.slots) pc ls C q) (kk : ∀ (r : Int32) (h' : AH), P r h' → V E cc own M Po Px X h' (k + M'.rm.cells) (n + M'.rm.slots) (pc + 3) ls (.int r :: st)) : V E cc own M Po Px X h k n pc ls (a4 :: a3 :: a2 :: a1 :: st) := g_callS (av := [a1, a2, a3, a4]) hc hk hlk hR hf rfl hcat d kx (fun v h' z => by
    obtain ⟨r, rfl, p⟩ := z
    exact kk r h' p)
theorem g_S4n0 {index : Nat} {cc' : ByteArray} {M' : GM} {a1 a2 a3 a4 : Value} {P : Nat → AH → Prop} (hc : Ct E cc' M' [a1, a2, a3, a4] h (pN (fun r h' => P r h')) noX) (hk : gCs cc' M' 4) (hlk : Cond.methodLink own index M'.y ∈ lw_all) (hR : M'.rm.frames + 1 ≤ M.rm.frames ∧ 8 + (M'.nL + 11) + M'.rm.locals ≤ M.rm.locals) (hz : M'.rm.cells = 0 ∧ M'.rm.slots = 0) (hf : k ≤ M.rm.cells ∧ n ≤ M.rm.slots) (hcat : (st.map fun v => v.category).sum ≤ 8) (d : decode cc pc = .ok (.invokestatic index, 3)) (kk : ∀ (r : Nat) (h' : AH), P r h' → V E cc own M Po Px X h' k n (pc + 3) ls (.int (nI r) :: st)) : V E cc own M Po Px X h k n pc ls (a4 :: a3 :: a2 :: a1 :: st) := by
  obtain ⟨z1, z2⟩ := hz
  refine g_callS (av := [a1, a2, a3, a4]) hc hk hlk hR (by rw [z1, z2]; exact hf) rfl hcat d (fun _ _ _ z => z.elim) (fun v h' z => by
    obtain ⟨r, rfl, p⟩ := z
    rw [z1, z2]
    exact kk r h' p)
theorem g_S4n0x {index : Nat} {cc' : ByteArray} {M' : GM} {a1 a2 a3 a4 : Value} {P : Nat → AH → Prop} {Px' : String → Nat → AH → Prop} (hc : Ct E cc' M' [a1, a2, a3, a4] h (pN (fun r h' => P r h')) Px') (hk : gCs cc' M' 4) (hlk : Cond.methodLink own index M'.y ∈ lw_all) (hR : M'.rm.frames + 1 ≤ M.rm.frames ∧ 8 + (M'.nL + 11) + M'.rm.locals ≤ M.rm.locals) (hz : M'.rm.cells = 0 ∧ M'.rm.slots = 0) (hf : k ≤ M.rm.cells ∧ n ≤ M.rm.slots) (hcat : (st.map fun v => v.category).sum ≤ 8) (d : decode cc pc = .ok (.invokestatic index, 3)) (kx : ∀ (C : String) (q : Nat) (h' : AH), Px' C q h' → VX E cc own M Po Px X h' k n pc ls C q) (kk : ∀ (r : Nat) (h' : AH), P r h' → V E cc own M Po Px X h' k n (pc + 3) ls (.int (nI r) :: st)) : V E cc own M Po Px X h k n pc ls (a4 :: a3 :: a2 :: a1 :: st) := by
  obtain ⟨z1, z2⟩ := hz
  refine g_callS (av := [a1, a2, a3, a4]) hc hk hlk hR (by rw [z1, z2]; exact hf) rfl hcat d (fun C q h' z => by rw [z1, z2]; exact kx C q h' z) (fun v h' z => by
    obtain ⟨r, rfl, p⟩ := z
    rw [z1, z2]
    exact kk r h' p)
theorem g_S4n {index : Nat} {cc' : ByteArray} {M' : GM} {a1 a2 a3 a4 : Value} {P : Nat → AH → Prop} (hc : Ct E cc' M' [a1, a2, a3, a4] h (pN (fun r h' => P r h')) noX) (hk : gCs cc' M' 4) (hlk : Cond.methodLink own index M'.y ∈ lw_all) (hR : M'.rm.frames + 1 ≤ M.rm.frames ∧ 8 + (M'.nL + 11) + M'.rm.locals ≤ M.rm.locals) (hf : k + M'.rm.cells ≤ M.rm.cells ∧ n + M'.rm.slots ≤ M.rm.slots) (hcat : (st.map fun v => v.category).sum ≤ 8) (d : decode cc pc = .ok (.invokestatic index, 3)) (kk : ∀ (r : Nat) (h' : AH), P r h' → V E cc own M Po Px X h' (k + M'.rm.cells) (n + M'.rm.slots) (pc + 3) ls (.int (nI r) :: st)) : V E cc own M Po Px X h k n pc ls (a4 :: a3 :: a2 :: a1 :: st) := g_callS (av := [a1, a2, a3, a4]) hc hk hlk hR hf rfl hcat d (fun _ _ _ z => z.elim) (fun v h' z => by
    obtain ⟨r, rfl, p⟩ := z
    exact kk r h' p)
theorem g_S4nx {index : Nat} {cc' : ByteArray} {M' : GM} {a1 a2 a3 a4 : Value} {P : Nat → AH → Prop} {Px' : String → Nat → AH → Prop} (hc : Ct E cc' M' [a1, a2, a3, a4] h (pN (fun r h' => P r h')) Px') (hk : gCs cc' M' 4) (hlk : Cond.methodLink own index M'.y ∈ lw_all) (hR : M'.rm.frames + 1 ≤ M.rm.frames ∧ 8 + (M'.nL + 11) + M'.rm.locals ≤ M.rm.locals) (hf : k + M'.rm.cells ≤ M.rm.cells ∧ n + M'.rm.slots ≤ M.rm.slots) (hcat : (st.map fun v => v.category).sum ≤ 8) (d : decode cc pc = .ok (.invokestatic index, 3)) (kx : ∀ (C : String) (q : Nat) (h' : AH), Px' C q h' → VX E cc own M Po Px X h' (k + M'.rm.cells) (n + M'.rm.slots) pc ls C q) (kk : ∀ (r : Nat) (h' : AH), P r h' → V E cc own M Po Px X h' (k + M'.rm.cells) (n + M'.rm.slots) (pc + 3) ls (.int (nI r) :: st)) : V E cc own M Po Px X h k n pc ls (a4 :: a3 :: a2 :: a1 :: st) := g_callS (av := [a1, a2, a3, a4]) hc hk hlk hR hf rfl hcat d kx (fun v h' z => by
    obtain ⟨r, rfl, p⟩ := z
    exact kk r h' p)
theorem g_S4l0 {index : Nat} {cc' : ByteArray} {M' : GM} {a1 a2 a3 a4 : Value} {P : Int64 → AH → Prop} (hc : Ct E cc' M' [a1, a2, a3, a4] h (pL (fun r h' => P r h')) noX) (hk : gCs cc' M' 4) (hlk : Cond.methodLink own index M'.y ∈ lw_all) (hR : M'.rm.frames + 1 ≤ M.rm.frames ∧ 8 + (M'.nL + 11) + M'.rm.locals ≤ M.rm.locals) (hz : M'.rm.cells = 0 ∧ M'.rm.slots = 0) (hf : k ≤ M.rm.cells ∧ n ≤ M.rm.slots) (hcat : (st.map fun v => v.category).sum ≤ 8) (d : decode cc pc = .ok (.invokestatic index, 3)) (kk : ∀ (r : Int64) (h' : AH), P r h' → V E cc own M Po Px X h' k n (pc + 3) ls (.long r :: st)) : V E cc own M Po Px X h k n pc ls (a4 :: a3 :: a2 :: a1 :: st) := by
  obtain ⟨z1, z2⟩ := hz
  refine g_callS (av := [a1, a2, a3, a4]) hc hk hlk hR (by rw [z1, z2]; exact hf) rfl hcat d (fun _ _ _ z => z.elim) (fun v h' z => by
    obtain ⟨r, rfl, p⟩ := z
    rw [z1, z2]
    exact kk r h' p)
theorem g_S4l0x {index : Nat} {cc' : ByteArray} {M' : GM} {a1 a2 a3 a4 : Value} {P : Int64 → AH → Prop} {Px' : String → Nat → AH → Prop} (hc : Ct E cc' M' [a1, a2, a3, a4] h (pL (fun r h' => P r h')) Px') (hk : gCs cc' M' 4) (hlk : Cond.methodLink own index M'.y ∈ lw_all) (hR : M'.rm.frames + 1 ≤ M.rm.frames ∧ 8 + (M'.nL + 11) + M'.rm.locals ≤ M.rm.locals) (hz : M'.rm.cells = 0 ∧ M'.rm.slots = 0) (hf : k ≤ M.rm.cells ∧ n ≤ M.rm.slots) (hcat : (st.map fun v => v.category).sum ≤ 8) (d : decode cc pc = .ok (.invokestatic index, 3)) (kx : ∀ (C : String) (q : Nat) (h' : AH), Px' C q h' → VX E cc own M Po Px X h' k n pc ls C q) (kk : ∀ (r : Int64) (h' : AH), P r h' → V E cc own M Po Px X h' k n (pc + 3) ls (.long r :: st)) : V E cc own M Po Px X h k n pc ls (a4 :: a3 :: a2 :: a1 :: st) := by
  obtain ⟨z1, z2⟩ := hz
  refine g_callS (av := [a1, a2, a3, a4]) hc hk hlk hR (by rw [z1, z2]; exact hf) rfl hcat d (fun C q h' z => by rw [z1, z2]; exact kx C q h' z) (fun v h' z => by
    obtain ⟨r, rfl, p⟩ := z
    rw [z1, z2]
    exact kk r h' p)
theorem g_S4l {index : Nat} {cc' : ByteArray} {M' : GM} {a1 a2 a3 a4 : Value} {P : Int64 → AH → Prop} (hc : Ct E cc' M' [a1, a2, a3, a4] h (pL (fun r h' => P r h')) noX) (hk : gCs cc' M' 4) (hlk : Cond.methodLink own index M'.y ∈ lw_all) (hR : M'.rm.frames + 1 ≤ M.rm.frames ∧ 8 + (M'.nL + 11) + M'.rm.locals ≤ M.rm.locals) (hf : k + M'.rm.cells ≤ M.rm.cells ∧ n + M'.rm.slots ≤ M.rm.slots) (hcat : (st.map fun v => v.category).sum ≤ 8) (d : decode cc pc = .ok (.invokestatic index, 3)) (kk : ∀ (r : Int64) (h' : AH), P r h' → V E cc own M Po Px X h' (k + M'.rm.cells) (n + M'.rm.slots) (pc + 3) ls (.long r :: st)) : V E cc own M Po Px X h k n pc ls (a4 :: a3 :: a2 :: a1 :: st) := g_callS (av := [a1, a2, a3, a4]) hc hk hlk hR hf rfl hcat d (fun _ _ _ z => z.elim) (fun v h' z => by
    obtain ⟨r, rfl, p⟩ := z
    exact kk r h' p)
theorem g_S4lx {index : Nat} {cc' : ByteArray} {M' : GM} {a1 a2 a3 a4 : Value} {P : Int64 → AH → Prop} {Px' : String → Nat → AH → Prop} (hc : Ct E cc' M' [a1, a2, a3, a4] h (pL (fun r h' => P r h')) Px') (hk : gCs cc' M' 4) (hlk : Cond.methodLink own index M'.y ∈ lw_all) (hR : M'.rm.frames + 1 ≤ M.rm.frames ∧ 8 + (M'.nL + 11) + M'.rm.locals ≤ M.rm.locals) (hf : k + M'.rm.cells ≤ M.rm.cells ∧ n + M'.rm.slots ≤ M.rm.slots) (hcat : (st.map fun v => v.category).sum ≤ 8) (d : decode cc pc = .ok (.invokestatic index, 3)) (kx : ∀ (C : String) (q : Nat) (h' : AH), Px' C q h' → VX E cc own M Po Px X h' (k + M'.rm.cells) (n + M'.rm.slots) pc ls C q) (kk : ∀ (r : Int64) (h' : AH), P r h' → V E cc own M Po Px X h' (k + M'.rm.cells) (n + M'.rm.slots) (pc + 3) ls (.long r :: st)) : V E cc own M Po Px X h k n pc ls (a4 :: a3 :: a2 :: a1 :: st) := g_callS (av := [a1, a2, a3, a4]) hc hk hlk hR hf rfl hcat d kx (fun v h' z => by
    obtain ⟨r, rfl, p⟩ := z
    exact kk r h' p)
theorem g_S4r0 {index : Nat} {cc' : ByteArray} {M' : GM} {a1 a2 a3 a4 : Value} {P : Nat → AH → Prop} (hc : Ct E cc' M' [a1, a2, a3, a4] h (pR (fun r h' => P r h')) noX) (hk : gCs cc' M' 4) (hlk : Cond.methodLink own index M'.y ∈ lw_all) (hR : M'.rm.frames + 1 ≤ M.rm.frames ∧ 8 + (M'.nL + 11) + M'.rm.locals ≤ M.rm.locals) (hz : M'.rm.cells = 0 ∧ M'.rm.slots = 0) (hf : k ≤ M.rm.cells ∧ n ≤ M.rm.slots) (hcat : (st.map fun v => v.category).sum ≤ 8) (d : decode cc pc = .ok (.invokestatic index, 3)) (kk : ∀ (r : Nat) (h' : AH), P r h' → V E cc own M Po Px X h' k n (pc + 3) ls (.ref r :: st)) : V E cc own M Po Px X h k n pc ls (a4 :: a3 :: a2 :: a1 :: st) := by
  obtain ⟨z1, z2⟩ := hz
  refine g_callS (av := [a1, a2, a3, a4]) hc hk hlk hR (by rw [z1, z2]; exact hf) rfl hcat d (fun _ _ _ z => z.elim) (fun v h' z => by
    obtain ⟨r, rfl, p⟩ := z
    rw [z1, z2]
    exact kk r h' p)
theorem g_S4r0x {index : Nat} {cc' : ByteArray} {M' : GM} {a1 a2 a3 a4 : Value} {P : Nat → AH → Prop} {Px' : String → Nat → AH → Prop} (hc : Ct E cc' M' [a1, a2, a3, a4] h (pR (fun r h' => P r h')) Px') (hk : gCs cc' M' 4) (hlk : Cond.methodLink own index M'.y ∈ lw_all) (hR : M'.rm.frames + 1 ≤ M.rm.frames ∧ 8 + (M'.nL + 11) + M'.rm.locals ≤ M.rm.locals) (hz : M'.rm.cells = 0 ∧ M'.rm.slots = 0) (hf : k ≤ M.rm.cells ∧ n ≤ M.rm.slots) (hcat : (st.map fun v => v.category).sum ≤ 8) (d : decode cc pc = .ok (.invokestatic index, 3)) (kx : ∀ (C : String) (q : Nat) (h' : AH), Px' C q h' → VX E cc own M Po Px X h' k n pc ls C q) (kk : ∀ (r : Nat) (h' : AH), P r h' → V E cc own M Po Px X h' k n (pc + 3) ls (.ref r :: st)) : V E cc own M Po Px X h k n pc ls (a4 :: a3 :: a2 :: a1 :: st) := by
  obtain ⟨z1, z2⟩ := hz
  refine g_callS (av := [a1, a2, a3, a4]) hc hk hlk hR (by rw [z1, z2]; exact hf) rfl hcat d (fun C q h' z => by rw [z1, z2]; exact kx C q h' z) (fun v h' z => by
    obtain ⟨r, rfl, p⟩ := z
    rw [z1, z2]
    exact kk r h' p)
theorem g_S4r {index : Nat} {cc' : ByteArray} {M' : GM} {a1 a2 a3 a4 : Value} {P : Nat → AH → Prop} (hc : Ct E cc' M' [a1, a2, a3, a4] h (pR (fun r h' => P r h')) noX) (hk : gCs cc' M' 4) (hlk : Cond.methodLink own index M'.y ∈ lw_all) (hR : M'.rm.frames + 1 ≤ M.rm.frames ∧ 8 + (M'.nL + 11) + M'.rm.locals ≤ M.rm.locals) (hf : k + M'.rm.cells ≤ M.rm.cells ∧ n + M'.rm.slots ≤ M.rm.slots) (hcat : (st.map fun v => v.category).sum ≤ 8) (d : decode cc pc = .ok (.invokestatic index, 3)) (kk : ∀ (r : Nat) (h' : AH), P r h' → V E cc own M Po Px X h' (k + M'.rm.cells) (n + M'.rm.slots) (pc + 3) ls (.ref r :: st)) : V E cc own M Po Px X h k n pc ls (a4 :: a3 :: a2 :: a1 :: st) := g_callS (av := [a1, a2, a3, a4]) hc hk hlk hR hf rfl hcat d (fun _ _ _ z => z.elim) (fun v h' z => by
    obtain ⟨r, rfl, p⟩ := z
    exact kk r h' p)
theorem g_S4rx {index : Nat} {cc' : ByteArray} {M' : GM} {a1 a2 a3 a4 : Value} {P : Nat → AH → Prop} {Px' : String → Nat → AH → Prop} (hc : Ct E cc' M' [a1, a2, a3, a4] h (pR (fun r h' => P r h')) Px') (hk : gCs cc' M' 4) (hlk : Cond.methodLink own index M'.y ∈ lw_all) (hR : M'.rm.frames + 1 ≤ M.rm.frames ∧ 8 + (M'.nL + 11) + M'.rm.locals ≤ M.rm.locals) (hf : k + M'.rm.cells ≤ M.rm.cells ∧ n + M'.rm.slots ≤ M.rm.slots) (hcat : (st.map fun v => v.category).sum ≤ 8) (d : decode cc pc = .ok (.invokestatic index, 3)) (kx : ∀ (C : String) (q : Nat) (h' : AH), Px' C q h' → VX E cc own M Po Px X h' (k + M'.rm.cells) (n + M'.rm.slots) pc ls C q) (kk : ∀ (r : Nat) (h' : AH), P r h' → V E cc own M Po Px X h' (k + M'.rm.cells) (n + M'.rm.slots) (pc + 3) ls (.ref r :: st)) : V E cc own M Po Px X h k n pc ls (a4 :: a3 :: a2 :: a1 :: st) := g_callS (av := [a1, a2, a3, a4]) hc hk hlk hR hf rfl hcat d kx (fun v h' z => by
    obtain ⟨r, rfl, p⟩ := z
    exact kk r h' p)
theorem g_S4q0 {index : Nat} {cc' : ByteArray} {M' : GM} {a1 a2 a3 a4 : Value} {P : Option Nat → AH → Prop} (hc : Ct E cc' M' [a1, a2, a3, a4] h (pQ (fun r h' => P r h')) noX) (hk : gCs cc' M' 4) (hlk : Cond.methodLink own index M'.y ∈ lw_all) (hR : M'.rm.frames + 1 ≤ M.rm.frames ∧ 8 + (M'.nL + 11) + M'.rm.locals ≤ M.rm.locals) (hz : M'.rm.cells = 0 ∧ M'.rm.slots = 0) (hf : k ≤ M.rm.cells ∧ n ≤ M.rm.slots) (hcat : (st.map fun v => v.category).sum ≤ 8) (d : decode cc pc = .ok (.invokestatic index, 3)) (kk : ∀ (r : Option Nat) (h' : AH), P r h' → V E cc own M Po Px X h' k n (pc + 3) ls (va_rf r :: st)) : V E cc own M Po Px X h k n pc ls (a4 :: a3 :: a2 :: a1 :: st) := by
  obtain ⟨z1, z2⟩ := hz
  refine g_callS (av := [a1, a2, a3, a4]) hc hk hlk hR (by rw [z1, z2]; exact hf) rfl hcat d (fun _ _ _ z => z.elim) (fun v h' z => by
    obtain ⟨r, rfl, p⟩ := z
    rw [z1, z2]
    exact kk r h' p)
theorem g_S4q0x {index : Nat} {cc' : ByteArray} {M' : GM} {a1 a2 a3 a4 : Value} {P : Option Nat → AH → Prop} {Px' : String → Nat → AH → Prop} (hc : Ct E cc' M' [a1, a2, a3, a4] h (pQ (fun r h' => P r h')) Px') (hk : gCs cc' M' 4) (hlk : Cond.methodLink own index M'.y ∈ lw_all) (hR : M'.rm.frames + 1 ≤ M.rm.frames ∧ 8 + (M'.nL + 11) + M'.rm.locals ≤ M.rm.locals) (hz : M'.rm.cells = 0 ∧ M'.rm.slots = 0) (hf : k ≤ M.rm.cells ∧ n ≤ M.rm.slots) (hcat : (st.map fun v => v.category).sum ≤ 8) (d : decode cc pc = .ok (.invokestatic index, 3)) (kx : ∀ (C : String) (q : Nat) (h' : AH), Px' C q h' → VX E cc own M Po Px X h' k n pc ls C q) (kk : ∀ (r : Option Nat) (h' : AH), P r h' → V E cc own M Po Px X h' k n (pc + 3) ls (va_rf r :: st)) : V E cc own M Po Px X h k n pc ls (a4 :: a3 :: a2 :: a1 :: st) := by
  obtain ⟨z1, z2⟩ := hz
  refine g_callS (av := [a1, a2, a3, a4]) hc hk hlk hR (by rw [z1, z2]; exact hf) rfl hcat d (fun C q h' z => by rw [z1, z2]; exact kx C q h' z) (fun v h' z => by
    obtain ⟨r, rfl, p⟩ := z
    rw [z1, z2]
    exact kk r h' p)
theorem g_S4q {index : Nat} {cc' : ByteArray} {M' : GM} {a1 a2 a3 a4 : Value} {P : Option Nat → AH → Prop} (hc : Ct E cc' M' [a1, a2, a3, a4] h (pQ (fun r h' => P r h')) noX) (hk : gCs cc' M' 4) (hlk : Cond.methodLink own index M'.y ∈ lw_all) (hR : M'.rm.frames + 1 ≤ M.rm.frames ∧ 8 + (M'.nL + 11) + M'.rm.locals ≤ M.rm.locals) (hf : k + M'.rm.cells ≤ M.rm.cells ∧ n + M'.rm.slots ≤ M.rm.slots) (hcat : (st.map fun v => v.category).sum ≤ 8) (d : decode cc pc = .ok (.invokestatic index, 3)) (kk : ∀ (r : Option Nat) (h' : AH), P r h' → V E cc own M Po Px X h' (k + M'.rm.cells) (n + M'.rm.slots) (pc + 3) ls (va_rf r :: st)) : V E cc own M Po Px X h k n pc ls (a4 :: a3 :: a2 :: a1 :: st) := g_callS (av := [a1, a2, a3, a4]) hc hk hlk hR hf rfl hcat d (fun _ _ _ z => z.elim) (fun v h' z => by
    obtain ⟨r, rfl, p⟩ := z
    exact kk r h' p)
theorem g_S4qx {index : Nat} {cc' : ByteArray} {M' : GM} {a1 a2 a3 a4 : Value} {P : Option Nat → AH → Prop} {Px' : String → Nat → AH → Prop} (hc : Ct E cc' M' [a1, a2, a3, a4] h (pQ (fun r h' => P r h')) Px') (hk : gCs cc' M' 4) (hlk : Cond.methodLink own index M'.y ∈ lw_all) (hR : M'.rm.frames + 1 ≤ M.rm.frames ∧ 8 + (M'.nL + 11) + M'.rm.locals ≤ M.rm.locals) (hf : k + M'.rm.cells ≤ M.rm.cells ∧ n + M'.rm.slots ≤ M.rm.slots) (hcat : (st.map fun v => v.category).sum ≤ 8) (d : decode cc pc = .ok (.invokestatic index, 3)) (kx : ∀ (C : String) (q : Nat) (h' : AH), Px' C q h' → VX E cc own M Po Px X h' (k + M'.rm.cells) (n + M'.rm.slots) pc ls C q) (kk : ∀ (r : Option Nat) (h' : AH), P r h' → V E cc own M Po Px X h' (k + M'.rm.cells) (n + M'.rm.slots) (pc + 3) ls (va_rf r :: st)) : V E cc own M Po Px X h k n pc ls (a4 :: a3 :: a2 :: a1 :: st) := g_callS (av := [a1, a2, a3, a4]) hc hk hlk hR hf rfl hcat d kx (fun v h' z => by
    obtain ⟨r, rfl, p⟩ := z
    exact kk r h' p)
theorem g_S4v0 {index : Nat} {cc' : ByteArray} {M' : GM} {a1 a2 a3 a4 : Value} {P : AH → Prop} (hc : Ct E cc' M' [a1, a2, a3, a4] h (pV (fun h' => P h')) noX) (hk : gCs cc' M' 4) (hlk : Cond.methodLink own index M'.y ∈ lw_all) (hR : M'.rm.frames + 1 ≤ M.rm.frames ∧ 8 + (M'.nL + 11) + M'.rm.locals ≤ M.rm.locals) (hz : M'.rm.cells = 0 ∧ M'.rm.slots = 0) (hf : k ≤ M.rm.cells ∧ n ≤ M.rm.slots) (hcat : (st.map fun v => v.category).sum ≤ 8) (d : decode cc pc = .ok (.invokestatic index, 3)) (kk : ∀ (h' : AH), P h' → V E cc own M Po Px X h' k n (pc + 3) ls st) : V E cc own M Po Px X h k n pc ls (a4 :: a3 :: a2 :: a1 :: st) := by
  obtain ⟨z1, z2⟩ := hz
  refine g_callS (av := [a1, a2, a3, a4]) hc hk hlk hR (by rw [z1, z2]; exact hf) rfl hcat d (fun _ _ _ z => z.elim) (fun v h' z => by
    obtain ⟨rfl, p⟩ := z
    rw [z1, z2]
    exact kk h' p)
theorem g_S4v0x {index : Nat} {cc' : ByteArray} {M' : GM} {a1 a2 a3 a4 : Value} {P : AH → Prop} {Px' : String → Nat → AH → Prop} (hc : Ct E cc' M' [a1, a2, a3, a4] h (pV (fun h' => P h')) Px') (hk : gCs cc' M' 4) (hlk : Cond.methodLink own index M'.y ∈ lw_all) (hR : M'.rm.frames + 1 ≤ M.rm.frames ∧ 8 + (M'.nL + 11) + M'.rm.locals ≤ M.rm.locals) (hz : M'.rm.cells = 0 ∧ M'.rm.slots = 0) (hf : k ≤ M.rm.cells ∧ n ≤ M.rm.slots) (hcat : (st.map fun v => v.category).sum ≤ 8) (d : decode cc pc = .ok (.invokestatic index, 3)) (kx : ∀ (C : String) (q : Nat) (h' : AH), Px' C q h' → VX E cc own M Po Px X h' k n pc ls C q) (kk : ∀ (h' : AH), P h' → V E cc own M Po Px X h' k n (pc + 3) ls st) : V E cc own M Po Px X h k n pc ls (a4 :: a3 :: a2 :: a1 :: st) := by
  obtain ⟨z1, z2⟩ := hz
  refine g_callS (av := [a1, a2, a3, a4]) hc hk hlk hR (by rw [z1, z2]; exact hf) rfl hcat d (fun C q h' z => by rw [z1, z2]; exact kx C q h' z) (fun v h' z => by
    obtain ⟨rfl, p⟩ := z
    rw [z1, z2]
    exact kk h' p)
theorem g_S4v {index : Nat} {cc' : ByteArray} {M' : GM} {a1 a2 a3 a4 : Value} {P : AH → Prop} (hc : Ct E cc' M' [a1, a2, a3, a4] h (pV (fun h' => P h')) noX) (hk : gCs cc' M' 4) (hlk : Cond.methodLink own index M'.y ∈ lw_all) (hR : M'.rm.frames + 1 ≤ M.rm.frames ∧ 8 + (M'.nL + 11) + M'.rm.locals ≤ M.rm.locals) (hf : k + M'.rm.cells ≤ M.rm.cells ∧ n + M'.rm.slots ≤ M.rm.slots) (hcat : (st.map fun v => v.category).sum ≤ 8) (d : decode cc pc = .ok (.invokestatic index, 3)) (kk : ∀ (h' : AH), P h' → V E cc own M Po Px X h' (k + M'.rm.cells) (n + M'.rm.slots) (pc + 3) ls st) : V E cc own M Po Px X h k n pc ls (a4 :: a3 :: a2 :: a1 :: st) := g_callS (av := [a1, a2, a3, a4]) hc hk hlk hR hf rfl hcat d (fun _ _ _ z => z.elim) (fun v h' z => by
    obtain ⟨rfl, p⟩ := z
    exact kk h' p)
theorem g_S4vx {index : Nat} {cc' : ByteArray} {M' : GM} {a1 a2 a3 a4 : Value} {P : AH → Prop} {Px' : String → Nat → AH → Prop} (hc : Ct E cc' M' [a1, a2, a3, a4] h (pV (fun h' => P h')) Px') (hk : gCs cc' M' 4) (hlk : Cond.methodLink own index M'.y ∈ lw_all) (hR : M'.rm.frames + 1 ≤ M.rm.frames ∧ 8 + (M'.nL + 11) + M'.rm.locals ≤ M.rm.locals) (hf : k + M'.rm.cells ≤ M.rm.cells ∧ n + M'.rm.slots ≤ M.rm.slots) (hcat : (st.map fun v => v.category).sum ≤ 8) (d : decode cc pc = .ok (.invokestatic index, 3)) (kx : ∀ (C : String) (q : Nat) (h' : AH), Px' C q h' → VX E cc own M Po Px X h' (k + M'.rm.cells) (n + M'.rm.slots) pc ls C q) (kk : ∀ (h' : AH), P h' → V E cc own M Po Px X h' (k + M'.rm.cells) (n + M'.rm.slots) (pc + 3) ls st) : V E cc own M Po Px X h k n pc ls (a4 :: a3 :: a2 :: a1 :: st) := g_callS (av := [a1, a2, a3, a4]) hc hk hlk hR hf rfl hcat d kx (fun v h' z => by
    obtain ⟨rfl, p⟩ := z
    exact kk h' p)
theorem g_S5i0 {index : Nat} {cc' : ByteArray} {M' : GM} {a1 a2 a3 a4 a5 : Value} {P : Int32 → AH → Prop} (hc : Ct E cc' M' [a1, a2, a3, a4, a5] h (pI (fun r h' => P r h')) noX) (hk : gCs cc' M' 5) (hlk : Cond.methodLink own index M'.y ∈ lw_all) (hR : M'.rm.frames + 1 ≤ M.rm.frames ∧ 8 + (M'.nL + 11) + M'.rm.locals ≤ M.rm.locals) (hz : M'.rm.cells = 0 ∧ M'.rm.slots = 0) (hf : k ≤ M.rm.cells ∧ n ≤ M.rm.slots) (hcat : (st.map fun v => v.category).sum ≤ 8) (d : decode cc pc = .ok (.invokestatic index, 3)) (kk : ∀ (r : Int32) (h' : AH), P r h' → V E cc own M Po Px X h' k n (pc + 3) ls (.int r :: st)) : V E cc own M Po Px X h k n pc ls (a5 :: a4 :: a3 :: a2 :: a1 :: st) := by
  obtain ⟨z1, z2⟩ := hz
  refine g_callS (av := [a1, a2, a3, a4, a5]) hc hk hlk hR (by rw [z1, z2]; exact hf) rfl hcat d (fun _ _ _ z => z.elim) (fun v h' z => by
    obtain ⟨r, rfl, p⟩ := z
    rw [z1, z2]
    exact kk r h' p)
theorem g_S5i0x {index : Nat} {cc' : ByteArray} {M' : GM} {a1 a2 a3 a4 a5 : Value} {P : Int32 → AH → Prop} {Px' : String → Nat → AH → Prop} (hc : Ct E cc' M' [a1, a2, a3, a4, a5] h (pI (fun r h' => P r h')) Px') (hk : gCs cc' M' 5) (hlk : Cond.methodLink own index M'.y ∈ lw_all) (hR : M'.rm.frames + 1 ≤ M.rm.frames ∧ 8 + (M'.nL + 11) + M'.rm.locals ≤ M.rm.locals) (hz : M'.rm.cells = 0 ∧ M'.rm.slots = 0) (hf : k ≤ M.rm.cells ∧ n ≤ M.rm.slots) (hcat : (st.map fun v => v.category).sum ≤ 8) (d : decode cc pc = .ok (.invokestatic index, 3)) (kx : ∀ (C : String) (q : Nat) (h' : AH), Px' C q h' → VX E cc own M Po Px X h' k n pc ls C q) (kk : ∀ (r : Int32) (h' : AH), P r h' → V E cc own M Po Px X h' k n (pc + 3) ls (.int r :: st)) : V E cc own M Po Px X h k n pc ls (a5 :: a4 :: a3 :: a2 :: a1 :: st) := by
  obtain ⟨z1, z2⟩ := hz
  refine g_callS (av := [a1, a2, a3, a4, a5]) hc hk hlk hR (by rw [z1, z2]; exact hf) rfl hcat d (fun C q h' z => by rw [z1, z2]; exact kx C q h' z) (fun v h' z => by
    obtain ⟨r, rfl, p⟩ := z
    rw [z1, z2]
    exact kk r h' p)
theorem g_S5i {index : Nat} {cc' : ByteArray} {M' : GM} {a1 a2 a3 a4 a5 : Value} {P : Int32 → AH → Prop} (hc : Ct E cc' M' [a1, a2, a3, a4, a5] h (pI (fun r h' => P r h')) noX) (hk : gCs cc' M' 5) (hlk : Cond.methodLink own index M'.y ∈ lw_all) (hR : M'.rm.frames + 1 ≤ M.rm.frames ∧ 8 + (M'.nL + 11) + M'.rm.locals ≤ M.rm.locals) (hf : k + M'.rm.cells ≤ M.rm.cells ∧ n + M'.rm.slots ≤ M.rm.slots) (hcat : (st.map fun v => v.category).sum ≤ 8) (d : decode cc pc = .ok (.invokestatic index, 3)) (kk : ∀ (r : Int32) (h' : AH), P r h' → V E cc own M Po Px X h' (k + M'.rm.cells) (n + M'.rm.slots) (pc + 3) ls (.int r :: st)) : V E cc own M Po Px X h k n pc ls (a5 :: a4 :: a3 :: a2 :: a1 :: st) := g_callS (av := [a1, a2, a3, a4, a5]) hc hk hlk hR hf rfl hcat d (fun _ _ _ z => z.elim) (fun v h' z => by
    obtain ⟨r, rfl, p⟩ := z
    exact kk r h' p)
theorem g_S5ix {index : Nat} {cc' : ByteArray} {M' : GM} {a1 a2 a3 a4 a5 : Value} {P : Int32 → AH → Prop} {Px' : String → Nat → AH → Prop} (hc : Ct E cc' M' [a1, a2, a3, a4, a5] h (pI (fun r h' => P r h')) Px') (hk : gCs cc' M' 5) (hlk : Cond.methodLink own index M'.y ∈ lw_all) (hR : M'.rm.frames + 1 ≤ M.rm.frames ∧ 8 + (M'.nL + 11) + M'.rm.locals ≤ M.rm.locals) (hf : k + M'.rm.cells ≤ M.rm.cells ∧ n + M'.rm.slots ≤ M.rm.slots) (hcat : (st.map fun v => v.category).sum ≤ 8) (d : decode cc pc = .ok (.invokestatic index, 3)) (kx : ∀ (C : String) (q : Nat) (h' : AH), Px' C q h' → VX E cc own M Po Px X h' (k + M'.rm.cells) (n + M'.rm.slots) pc ls C q) (kk : ∀ (r : Int32) (h' : AH), P r h' → V E cc own M Po Px X h' (k + M'.rm.cells) (n + M'.rm.slots) (pc + 3) ls (.int r :: st)) : V E cc own M Po Px X h k n pc ls (a5 :: a4 :: a3 :: a2 :: a1 :: st) := g_callS (av := [a1, a2, a3, a4, a5]) hc hk hlk hR hf rfl hcat d kx (fun v h' z => by
    obtain ⟨r, rfl, p⟩ := z
    exact kk r h' p)
theorem g_S5n0 {index : Nat} {cc' : ByteArray} {M' : GM} {a1 a2 a3 a4 a5 : Value} {P : Nat → AH → Prop} (hc : Ct E cc' M' [a1, a2, a3, a4, a5] h (pN (fun r h' => P r h')) noX) (hk : gCs cc' M' 5) (hlk : Cond.methodLink own index M'.y ∈ lw_all) (hR : M'.rm.frames + 1 ≤ M.rm.frames ∧ 8 + (M'.nL + 11) + M'.rm.locals ≤ M.rm.locals) (hz : M'.rm.cells = 0 ∧ M'.rm.slots = 0) (hf : k ≤ M.rm.cells ∧ n ≤ M.rm.slots) (hcat : (st.map fun v => v.category).sum ≤ 8) (d : decode cc pc = .ok (.invokestatic index, 3)) (kk : ∀ (r : Nat) (h' : AH), P r h' → V E cc own M Po Px X h' k n (pc + 3) ls (.int (nI r) :: st)) : V E cc own M Po Px X h k n pc ls (a5 :: a4 :: a3 :: a2 :: a1 :: st) := by
  obtain ⟨z1, z2⟩ := hz
  refine g_callS (av := [a1, a2, a3, a4, a5]) hc hk hlk hR (by rw [z1, z2]; exact hf) rfl hcat d (fun _ _ _ z => z.elim) (fun v h' z => by
    obtain ⟨r, rfl, p⟩ := z
    rw [z1, z2]
    exact kk r h' p)
theorem g_S5n0x {index : Nat} {cc' : ByteArray} {M' : GM} {a1 a2 a3 a4 a5 : Value} {P : Nat → AH → Prop} {Px' : String → Nat → AH → Prop} (hc : Ct E cc' M' [a1, a2, a3, a4, a5] h (pN (fun r h' => P r h')) Px') (hk : gCs cc' M' 5) (hlk : Cond.methodLink own index M'.y ∈ lw_all) (hR : M'.rm.frames + 1 ≤ M.rm.frames ∧ 8 + (M'.nL + 11) + M'.rm.locals ≤ M.rm.locals) (hz : M'.rm.cells = 0 ∧ M'.rm.slots = 0) (hf : k ≤ M.rm.cells ∧ n ≤ M.rm.slots) (hcat : (st.map fun v => v.category).sum ≤ 8) (d : decode cc pc = .ok (.invokestatic index, 3)) (kx : ∀ (C : String) (q : Nat) (h' : AH), Px' C q h' → VX E cc own M Po Px X h' k n pc ls C q) (kk : ∀ (r : Nat) (h' : AH), P r h' → V E cc own M Po Px X h' k n (pc + 3) ls (.int (nI r) :: st)) : V E cc own M Po Px X h k n pc ls (a5 :: a4 :: a3 :: a2 :: a1 :: st) := by
  obtain ⟨z1, z2⟩ := hz
  refine g_callS (av := [a1, a2, a3, a4, a5]) hc hk hlk hR (by rw [z1, z2]; exact hf) rfl hcat d (fun C q h' z => by rw [z1, z2]; exact kx C q h' z) (fun v h' z => by
    obtain ⟨r, rfl, p⟩ := z
    rw [z1, z2]
    exact kk r h' p)
theorem g_S5n {index : Nat} {cc' : ByteArray} {M' : GM} {a1 a2 a3 a4 a5 : Value} {P : Nat → AH → Prop} (hc : Ct E cc' M' [a1, a2, a3, a4, a5] h (pN (fun r h' => P r h')) noX) (hk : gCs cc' M' 5) (hlk : Cond.methodLink own index M'.y ∈ lw_all) (hR : M'.rm.frames + 1 ≤ M.rm.frames ∧ 8 + (M'.nL + 11) + M'.rm.locals ≤ M.rm.locals) (hf : k + M'.rm.cells ≤ M.rm.cells ∧ n + M'.rm.slots ≤ M.rm.slots) (hcat : (st.map fun v => v.category).sum ≤ 8) (d : decode cc pc = .ok (.invokestatic index, 3)) (kk : ∀ (r : Nat) (h' : AH), P r h' → V E cc own M Po Px X h' (k + M'.rm.cells) (n + M'.rm.slots) (pc + 3) ls (.int (nI r) :: st)) : V E cc own M Po Px X h k n pc ls (a5 :: a4 :: a3 :: a2 :: a1 :: st) := g_callS (av := [a1, a2, a3, a4, a5]) hc hk hlk hR hf rfl hcat d (fun _ _ _ z => z.elim) (fun v h' z => by
    obtain ⟨r, rfl, p⟩ := z
    exact kk r h' p)
theorem g_S5nx {index : Nat} {cc' : ByteArray} {M' : GM} {a1 a2 a3 a4 a5 : Value} {P : Nat → AH → Prop} {Px' : String → Nat → AH → Prop} (hc : Ct E cc' M' [a1, a2, a3, a4, a5] h (pN (fun r h' => P r h')) Px') (hk : gCs cc' M' 5) (hlk : Cond.methodLink own index M'.y ∈ lw_all) (hR : M'.rm.frames + 1 ≤ M.rm.frames ∧ 8 + (M'.nL + 11) + M'.rm.locals ≤ M.rm.locals) (hf : k + M'.rm.cells ≤ M.rm.cells ∧ n + M'.rm.slots ≤ M.rm.slots) (hcat : (st.map fun v => v.category).sum ≤ 8) (d : decode cc pc = .ok (.invokestatic index, 3)) (kx : ∀ (C : String) (q : Nat) (h' : AH), Px' C q h' → VX E cc own M Po Px X h' (k + M'.rm.cells) (n + M'.rm.slots) pc ls C q) (kk : ∀ (r : Nat) (h' : AH), P r h' → V E cc own M Po Px X h' (k + M'.rm.cells) (n + M'.rm.slots) (pc + 3) ls (.int (nI r) :: st)) : V E cc own M Po Px X h k n pc ls (a5 :: a4 :: a3 :: a2 :: a1 :: st) := g_callS (av := [a1, a2, a3, a4, a5]) hc hk hlk hR hf rfl hcat d kx (fun v h' z => by
    obtain ⟨r, rfl, p⟩ := z
    exact kk r h' p)
theorem g_S5l0 {index : Nat} {cc' : ByteArray} {M' : GM} {a1 a2 a3 a4 a5 : Value} {P : Int64 → AH → Prop} (hc : Ct E cc' M' [a1, a2, a3, a4, a5] h (pL (fun r h' => P r h')) noX) (hk : gCs cc' M' 5) (hlk : Cond.methodLink own index M'.y ∈ lw_all) (hR : M'.rm.frames + 1 ≤ M.rm.frames ∧ 8 + (M'.nL + 11) + M'.rm.locals ≤ M.rm.locals) (hz : M'.rm.cells = 0 ∧ M'.rm.slots = 0) (hf : k ≤ M.rm.cells ∧ n ≤ M.rm.slots) (hcat : (st.map fun v => v.category).sum ≤ 8) (d : decode cc pc = .ok (.invokestatic index, 3)) (kk : ∀ (r : Int64) (h' : AH), P r h' → V E cc own M Po Px X h' k n (pc + 3) ls (.long r :: st)) : V E cc own M Po Px X h k n pc ls (a5 :: a4 :: a3 :: a2 :: a1 :: st) := by
  obtain ⟨z1, z2⟩ := hz
  refine g_callS (av := [a1, a2, a3, a4, a5]) hc hk hlk hR (by rw [z1, z2]; exact hf) rfl hcat d (fun _ _ _ z => z.elim) (fun v h' z => by
    obtain ⟨r, rfl, p⟩ := z
    rw [z1, z2]
    exact kk r h' p)
theorem g_S5l0x {index : Nat} {cc' : ByteArray} {M' : GM} {a1 a2 a3 a4 a5 : Value} {P : Int64 → AH → Prop} {Px' : String → Nat → AH → Prop} (hc : Ct E cc' M' [a1, a2, a3, a4, a5] h (pL (fun r h' => P r h')) Px') (hk : gCs cc' M' 5) (hlk : Cond.methodLink own index M'.y ∈ lw_all) (hR : M'.rm.frames + 1 ≤ M.rm.frames ∧ 8 + (M'.nL + 11) + M'.rm.locals ≤ M.rm.locals) (hz : M'.rm.cells = 0 ∧ M'.rm.slots = 0) (hf : k ≤ M.rm.cells ∧ n ≤ M.rm.slots) (hcat : (st.map fun v => v.category).sum ≤ 8) (d : decode cc pc = .ok (.invokestatic index, 3)) (kx : ∀ (C : String) (q : Nat) (h' : AH), Px' C q h' → VX E cc own M Po Px X h' k n pc ls C q) (kk : ∀ (r : Int64) (h' : AH), P r h' → V E cc own M Po Px X h' k n (pc + 3) ls (.long r :: st)) : V E cc own M Po Px X h k n pc ls (a5 :: a4 :: a3 :: a2 :: a1 :: st) := by
  obtain ⟨z1, z2⟩ := hz
  refine g_callS (av := [a1, a2, a3, a4, a5]) hc hk hlk hR (by rw [z1, z2]; exact hf) rfl hcat d (fun C q h' z => by rw [z1, z2]; exact kx C q h' z) (fun v h' z => by
    obtain ⟨r, rfl, p⟩ := z
    rw [z1, z2]
    exact kk r h' p)
theorem g_S5l {index : Nat} {cc' : ByteArray} {M' : GM} {a1 a2 a3 a4 a5 : Value} {P : Int64 → AH → Prop} (hc : Ct E cc' M' [a1, a2, a3, a4, a5] h (pL (fun r h' => P r h')) noX) (hk : gCs cc' M' 5) (hlk : Cond.methodLink own index M'.y ∈ lw_all) (hR : M'.rm.frames + 1 ≤ M.rm.frames ∧ 8 + (M'.nL + 11) + M'.rm.locals ≤ M.rm.locals) (hf : k + M'.rm.cells ≤ M.rm.cells ∧ n + M'.rm.slots ≤ M.rm.slots) (hcat : (st.map fun v => v.category).sum ≤ 8) (d : decode cc pc = .ok (.invokestatic index, 3)) (kk : ∀ (r : Int64) (h' : AH), P r h' → V E cc own M Po Px X h' (k + M'.rm.cells) (n + M'.rm.slots) (pc + 3) ls (.long r :: st)) : V E cc own M Po Px X h k n pc ls (a5 :: a4 :: a3 :: a2 :: a1 :: st) := g_callS (av := [a1, a2, a3, a4, a5]) hc hk hlk hR hf rfl hcat d (fun _ _ _ z => z.elim) (fun v h' z => by
    obtain ⟨r, rfl, p⟩ := z
    exact kk r h' p)
theorem g_S5lx {index : Nat} {cc' : ByteArray} {M' : GM} {a1 a2 a3 a4 a5 : Value} {P : Int64 → AH → Prop} {Px' : String → Nat → AH → Prop} (hc : Ct E cc' M' [a1, a2, a3, a4, a5] h (pL (fun r h' => P r h')) Px') (hk : gCs cc' M' 5) (hlk : Cond.methodLink own index M'.y ∈ lw_all) (hR : M'.rm.frames + 1 ≤ M.rm.frames ∧ 8 + (M'.nL + 11) + M'.rm.locals ≤ M.rm.locals) (hf : k + M'.rm.cells ≤ M.rm.cells ∧ n + M'.rm.slots ≤ M.rm.slots) (hcat : (st.map fun v => v.category).sum ≤ 8) (d : decode cc pc = .ok (.invokestatic index, 3)) (kx : ∀ (C : String) (q : Nat) (h' : AH), Px' C q h' → VX E cc own M Po Px X h' (k + M'.rm.cells) (n + M'.rm.slots) pc ls C q) (kk : ∀ (r : Int64) (h' : AH), P r h' → V E cc own M Po Px X h' (k + M'.rm.cells) (n + M'.rm.slots) (pc + 3) ls (.long r :: st)) : V E cc own M Po Px X h k n pc ls (a5 :: a4 :: a3 :: a2 :: a1 :: st) := g_callS (av := [a1, a2, a3, a4, a5]) hc hk hlk hR hf rfl hcat d kx (fun v h' z => by
    obtain ⟨r, rfl, p⟩ := z
    exact kk r h' p)
theorem g_S5r0 {index : Nat} {cc' : ByteArray} {M' : GM} {a1 a2 a3 a4 a5 : Value} {P : Nat → AH → Prop} (hc : Ct E cc' M' [a1, a2, a3, a4, a5] h (pR (fun r h' => P r h')) noX) (hk : gCs cc' M' 5) (hlk : Cond.methodLink own index M'.y ∈ lw_all) (hR : M'.rm.frames + 1 ≤ M.rm.frames ∧ 8 + (M'.nL + 11) + M'.rm.locals ≤ M.rm.locals) (hz : M'.rm.cells = 0 ∧ M'.rm.slots = 0) (hf : k ≤ M.rm.cells ∧ n ≤ M.rm.slots) (hcat : (st.map fun v => v.category).sum ≤ 8) (d : decode cc pc = .ok (.invokestatic index, 3)) (kk : ∀ (r : Nat) (h' : AH), P r h' → V E cc own M Po Px X h' k n (pc + 3) ls (.ref r :: st)) : V E cc own M Po Px X h k n pc ls (a5 :: a4 :: a3 :: a2 :: a1 :: st) := by
  obtain ⟨z1, z2⟩ := hz
  refine g_callS (av := [a1, a2, a3, a4, a5]) hc hk hlk hR (by rw [z1, z2]; exact hf) rfl hcat d (fun _ _ _ z => z.elim) (fun v h' z => by
    obtain ⟨r, rfl, p⟩ := z
    rw [z1, z2]
    exact kk r h' p)
theorem g_S5r0x {index : Nat} {cc' : ByteArray} {M' : GM} {a1 a2 a3 a4 a5 : Value} {P : Nat → AH → Prop} {Px' : String → Nat → AH → Prop} (hc : Ct E cc' M' [a1, a2, a3, a4, a5] h (pR (fun r h' => P r h')) Px') (hk : gCs cc' M' 5) (hlk : Cond.methodLink own index M'.y ∈ lw_all) (hR : M'.rm.frames + 1 ≤ M.rm.frames ∧ 8 + (M'.nL + 11) + M'.rm.locals ≤ M.rm.locals) (hz : M'.rm.cells = 0 ∧ M'.rm.slots = 0) (hf : k ≤ M.rm.cells ∧ n ≤ M.rm.slots) (hcat : (st.map fun v => v.category).sum ≤ 8) (d : decode cc pc = .ok (.invokestatic index, 3)) (kx : ∀ (C : String) (q : Nat) (h' : AH), Px' C q h' → VX E cc own M Po Px X h' k n pc ls C q) (kk : ∀ (r : Nat) (h' : AH), P r h' → V E cc own M Po Px X h' k n (pc + 3) ls (.ref r :: st)) : V E cc own M Po Px X h k n pc ls (a5 :: a4 :: a3 :: a2 :: a1 :: st) := by
  obtain ⟨z1, z2⟩ := hz
  refine g_callS (av := [a1, a2, a3, a4, a5]) hc hk hlk hR (by rw [z1, z2]; exact hf) rfl hcat d (fun C q h' z => by rw [z1, z2]; exact kx C q h' z) (fun v h' z => by
    obtain ⟨r, rfl, p⟩ := z
    rw [z1, z2]
    exact kk r h' p)
theorem g_S5r {index : Nat} {cc' : ByteArray} {M' : GM} {a1 a2 a3 a4 a5 : Value} {P : Nat → AH → Prop} (hc : Ct E cc' M' [a1, a2, a3, a4, a5] h (pR (fun r h' => P r h')) noX) (hk : gCs cc' M' 5) (hlk : Cond.methodLink own index M'.y ∈ lw_all) (hR : M'.rm.frames + 1 ≤ M.rm.frames ∧ 8 + (M'.nL + 11) + M'.rm.locals ≤ M.rm.locals) (hf : k + M'.rm.cells ≤ M.rm.cells ∧ n + M'.rm.slots ≤ M.rm.slots) (hcat : (st.map fun v => v.category).sum ≤ 8) (d : decode cc pc = .ok (.invokestatic index, 3)) (kk : ∀ (r : Nat) (h' : AH), P r h' → V E cc own M Po Px X h' (k + M'.rm.cells) (n + M'.rm.slots) (pc + 3) ls (.ref r :: st)) : V E cc own M Po Px X h k n pc ls (a5 :: a4 :: a3 :: a2 :: a1 :: st) := g_callS (av := [a1, a2, a3, a4, a5]) hc hk hlk hR hf rfl hcat d (fun _ _ _ z => z.elim) (fun v h' z => by
    obtain ⟨r, rfl, p⟩ := z
    exact kk r h' p)
theorem g_S5rx {index : Nat} {cc' : ByteArray} {M' : GM} {a1 a2 a3 a4 a5 : Value} {P : Nat → AH → Prop} {Px' : String → Nat → AH → Prop} (hc : Ct E cc' M' [a1, a2, a3, a4, a5] h (pR (fun r h' => P r h')) Px') (hk : gCs cc' M' 5) (hlk : Cond.methodLink own index M'.y ∈ lw_all) (hR : M'.rm.frames + 1 ≤ M.rm.frames ∧ 8 + (M'.nL + 11) + M'.rm.locals ≤ M.rm.locals) (hf : k + M'.rm.cells ≤ M.rm.cells ∧ n + M'.rm.slots ≤ M.rm.slots) (hcat : (st.map fun v => v.category).sum ≤ 8) (d : decode cc pc = .ok (.invokestatic index, 3)) (kx : ∀ (C : String) (q : Nat) (h' : AH), Px' C q h' → VX E cc own M Po Px X h' (k + M'.rm.cells) (n + M'.rm.slots) pc ls C q) (kk : ∀ (r : Nat) (h' : AH), P r h' → V E cc own M Po Px X h' (k + M'.rm.cells) (n + M'.rm.slots) (pc + 3) ls (.ref r :: st)) : V E cc own M Po Px X h k n pc ls (a5 :: a4 :: a3 :: a2 :: a1 :: st) := g_callS (av := [a1, a2, a3, a4, a5]) hc hk hlk hR hf rfl hcat d kx (fun v h' z => by
    obtain ⟨r, rfl, p⟩ := z
    exact kk r h' p)
theorem g_S5q0 {index : Nat} {cc' : ByteArray} {M' : GM} {a1 a2 a3 a4 a5 : Value} {P : Option Nat → AH → Prop} (hc : Ct E cc' M' [a1, a2, a3, a4, a5] h (pQ (fun r h' => P r h')) noX) (hk : gCs cc' M' 5) (hlk : Cond.methodLink own index M'.y ∈ lw_all) (hR : M'.rm.frames + 1 ≤ M.rm.frames ∧ 8 + (M'.nL + 11) + M'.rm.locals ≤ M.rm.locals) (hz : M'.rm.cells = 0 ∧ M'.rm.slots = 0) (hf : k ≤ M.rm.cells ∧ n ≤ M.rm.slots) (hcat : (st.map fun v => v.category).sum ≤ 8) (d : decode cc pc = .ok (.invokestatic index, 3)) (kk : ∀ (r : Option Nat) (h' : AH), P r h' → V E cc own M Po Px X h' k n (pc + 3) ls (va_rf r :: st)) : V E cc own M Po Px X h k n pc ls (a5 :: a4 :: a3 :: a2 :: a1 :: st) := by
  obtain ⟨z1, z2⟩ := hz
  refine g_callS (av := [a1, a2, a3, a4, a5]) hc hk hlk hR (by rw [z1, z2]; exact hf) rfl hcat d (fun _ _ _ z => z.elim) (fun v h' z => by
    obtain ⟨r, rfl, p⟩ := z
    rw [z1, z2]
    exact kk r h' p)
theorem g_S5q0x {index : Nat} {cc' : ByteArray} {M' : GM} {a1 a2 a3 a4 a5 : Value} {P : Option Nat → AH → Prop} {Px' : String → Nat → AH → Prop} (hc : Ct E cc' M' [a1, a2, a3, a4, a5] h (pQ (fun r h' => P r h')) Px') (hk : gCs cc' M' 5) (hlk : Cond.methodLink own index M'.y ∈ lw_all) (hR : M'.rm.frames + 1 ≤ M.rm.frames ∧ 8 + (M'.nL + 11) + M'.rm.locals ≤ M.rm.locals) (hz : M'.rm.cells = 0 ∧ M'.rm.slots = 0) (hf : k ≤ M.rm.cells ∧ n ≤ M.rm.slots) (hcat : (st.map fun v => v.category).sum ≤ 8) (d : decode cc pc = .ok (.invokestatic index, 3)) (kx : ∀ (C : String) (q : Nat) (h' : AH), Px' C q h' → VX E cc own M Po Px X h' k n pc ls C q) (kk : ∀ (r : Option Nat) (h' : AH), P r h' → V E cc own M Po Px X h' k n (pc + 3) ls (va_rf r :: st)) : V E cc own M Po Px X h k n pc ls (a5 :: a4 :: a3 :: a2 :: a1 :: st) := by
  obtain ⟨z1, z2⟩ := hz
  refine g_callS (av := [a1, a2, a3, a4, a5]) hc hk hlk hR (by rw [z1, z2]; exact hf) rfl hcat d (fun C q h' z => by rw [z1, z2]; exact kx C q h' z) (fun v h' z => by
    obtain ⟨r, rfl, p⟩ := z
    rw [z1, z2]
    exact kk r h' p)
theorem g_S5q {index : Nat} {cc' : ByteArray} {M' : GM} {a1 a2 a3 a4 a5 : Value} {P : Option Nat → AH → Prop} (hc : Ct E cc' M' [a1, a2, a3, a4, a5] h (pQ (fun r h' => P r h')) noX) (hk : gCs cc' M' 5) (hlk : Cond.methodLink own index M'.y ∈ lw_all) (hR : M'.rm.frames + 1 ≤ M.rm.frames ∧ 8 + (M'.nL + 11) + M'.rm.locals ≤ M.rm.locals) (hf : k + M'.rm.cells ≤ M.rm.cells ∧ n + M'.rm.slots ≤ M.rm.slots) (hcat : (st.map fun v => v.category).sum ≤ 8) (d : decode cc pc = .ok (.invokestatic index, 3)) (kk : ∀ (r : Option Nat) (h' : AH), P r h' → V E cc own M Po Px X h' (k + M'.rm.cells) (n + M'.rm.slots) (pc + 3) ls (va_rf r :: st)) : V E cc own M Po Px X h k n pc ls (a5 :: a4 :: a3 :: a2 :: a1 :: st) := g_callS (av := [a1, a2, a3, a4, a5]) hc hk hlk hR hf rfl hcat d (fun _ _ _ z => z.elim) (fun v h' z => by
    obtain ⟨r, rfl, p⟩ := z
    exact kk r h' p)
theorem g_S5qx {index : Nat} {cc' : ByteArray} {M' : GM} {a1 a2 a3 a4 a5 : Value} {P : Option Nat → AH → Prop} {Px' : String → Nat → AH → Prop} (hc : Ct E cc' M' [a1, a2, a3, a4, a5] h (pQ (fun r h' => P r h')) Px') (hk : gCs cc' M' 5) (hlk : Cond.methodLink own index M'.y ∈ lw_all) (hR : M'.rm.frames + 1 ≤ M.rm.frames ∧ 8 + (M'.nL + 11) + M'.rm.locals ≤ M.rm.locals) (hf : k + M'.rm.cells ≤ M.rm.cells ∧ n + M'.rm.slots ≤ M.rm.slots) (hcat : (st.map fun v => v.category).sum ≤ 8) (d : decode cc pc = .ok (.invokestatic index, 3)) (kx : ∀ (C : String) (q : Nat) (h' : AH), Px' C q h' → VX E cc own M Po Px X h' (k + M'.rm.cells) (n + M'.rm.slots) pc ls C q) (kk : ∀ (r : Option Nat) (h' : AH), P r h' → V E cc own M Po Px X h' (k + M'.rm.cells) (n + M'.rm.slots) (pc + 3) ls (va_rf r :: st)) : V E cc own M Po Px X h k n pc ls (a5 :: a4 :: a3 :: a2 :: a1 :: st) := g_callS (av := [a1, a2, a3, a4, a5]) hc hk hlk hR hf rfl hcat d kx (fun v h' z => by
    obtain ⟨r, rfl, p⟩ := z
    exact kk r h' p)
theorem g_S5v0 {index : Nat} {cc' : ByteArray} {M' : GM} {a1 a2 a3 a4 a5 : Value} {P : AH → Prop} (hc : Ct E cc' M' [a1, a2, a3, a4, a5] h (pV (fun h' => P h')) noX) (hk : gCs cc' M' 5) (hlk : Cond.methodLink own index M'.y ∈ lw_all) (hR : M'.rm.frames + 1 ≤ M.rm.frames ∧ 8 + (M'.nL + 11) + M'.rm.locals ≤ M.rm.locals) (hz : M'.rm.cells = 0 ∧ M'.rm.slots = 0) (hf : k ≤ M.rm.cells ∧ n ≤ M.rm.slots) (hcat : (st.map fun v => v.category).sum ≤ 8) (d : decode cc pc = .ok (.invokestatic index, 3)) (kk : ∀ (h' : AH), P h' → V E cc own M Po Px X h' k n (pc + 3) ls st) : V E cc own M Po Px X h k n pc ls (a5 :: a4 :: a3 :: a2 :: a1 :: st) := by
  obtain ⟨z1, z2⟩ := hz
  refine g_callS (av := [a1, a2, a3, a4, a5]) hc hk hlk hR (by rw [z1, z2]; exact hf) rfl hcat d (fun _ _ _ z => z.elim) (fun v h' z => by
    obtain ⟨rfl, p⟩ := z
    rw [z1, z2]
    exact kk h' p)
theorem g_S5v0x {index : Nat} {cc' : ByteArray} {M' : GM} {a1 a2 a3 a4 a5 : Value} {P : AH → Prop} {Px' : String → Nat → AH → Prop} (hc : Ct E cc' M' [a1, a2, a3, a4, a5] h (pV (fun h' => P h')) Px') (hk : gCs cc' M' 5) (hlk : Cond.methodLink own index M'.y ∈ lw_all) (hR : M'.rm.frames + 1 ≤ M.rm.frames ∧ 8 + (M'.nL + 11) + M'.rm.locals ≤ M.rm.locals) (hz : M'.rm.cells = 0 ∧ M'.rm.slots = 0) (hf : k ≤ M.rm.cells ∧ n ≤ M.rm.slots) (hcat : (st.map fun v => v.category).sum ≤ 8) (d : decode cc pc = .ok (.invokestatic index, 3)) (kx : ∀ (C : String) (q : Nat) (h' : AH), Px' C q h' → VX E cc own M Po Px X h' k n pc ls C q) (kk : ∀ (h' : AH), P h' → V E cc own M Po Px X h' k n (pc + 3) ls st) : V E cc own M Po Px X h k n pc ls (a5 :: a4 :: a3 :: a2 :: a1 :: st) := by
  obtain ⟨z1, z2⟩ := hz
  refine g_callS (av := [a1, a2, a3, a4, a5]) hc hk hlk hR (by rw [z1, z2]; exact hf) rfl hcat d (fun C q h' z => by rw [z1, z2]; exact kx C q h' z) (fun v h' z => by
    obtain ⟨rfl, p⟩ := z
    rw [z1, z2]
    exact kk h' p)
theorem g_S5v {index : Nat} {cc' : ByteArray} {M' : GM} {a1 a2 a3 a4 a5 : Value} {P : AH → Prop} (hc : Ct E cc' M' [a1, a2, a3, a4, a5] h (pV (fun h' => P h')) noX) (hk : gCs cc' M' 5) (hlk : Cond.methodLink own index M'.y ∈ lw_all) (hR : M'.rm.frames + 1 ≤ M.rm.frames ∧ 8 + (M'.nL + 11) + M'.rm.locals ≤ M.rm.locals) (hf : k + M'.rm.cells ≤ M.rm.cells ∧ n + M'.rm.slots ≤ M.rm.slots) (hcat : (st.map fun v => v.category).sum ≤ 8) (d : decode cc pc = .ok (.invokestatic index, 3)) (kk : ∀ (h' : AH), P h' → V E cc own M Po Px X h' (k + M'.rm.cells) (n + M'.rm.slots) (pc + 3) ls st) : V E cc own M Po Px X h k n pc ls (a5 :: a4 :: a3 :: a2 :: a1 :: st) := g_callS (av := [a1, a2, a3, a4, a5]) hc hk hlk hR hf rfl hcat d (fun _ _ _ z => z.elim) (fun v h' z => by
    obtain ⟨rfl, p⟩ := z
    exact kk h' p)
theorem g_S5vx {index : Nat} {cc' : ByteArray} {M' : GM} {a1 a2 a3 a4 a5 : Value} {P : AH → Prop} {Px' : String → Nat → AH → Prop} (hc : Ct E cc' M' [a1, a2, a3, a4, a5] h (pV (fun h' => P h')) Px') (hk : gCs cc' M' 5) (hlk : Cond.methodLink own index M'.y ∈ lw_all) (hR : M'.rm.frames + 1 ≤ M.rm.frames ∧ 8 + (M'.nL + 11) + M'.rm.locals ≤ M.rm.locals) (hf : k + M'.rm.cells ≤ M.rm.cells ∧ n + M'.rm.slots ≤ M.rm.slots) (hcat : (st.map fun v => v.category).sum ≤ 8) (d : decode cc pc = .ok (.invokestatic index, 3)) (kx : ∀ (C : String) (q : Nat) (h' : AH), Px' C q h' → VX E cc own M Po Px X h' (k + M'.rm.cells) (n + M'.rm.slots) pc ls C q) (kk : ∀ (h' : AH), P h' → V E cc own M Po Px X h' (k + M'.rm.cells) (n + M'.rm.slots) (pc + 3) ls st) : V E cc own M Po Px X h k n pc ls (a5 :: a4 :: a3 :: a2 :: a1 :: st) := g_callS (av := [a1, a2, a3, a4, a5]) hc hk hlk hR hf rfl hcat d kx (fun v h' z => by
    obtain ⟨rfl, p⟩ := z
    exact kk h' p)
theorem g_V0i0 {index a t ci : Nat} {fs : List Value} {q : vw_C} {cc' : ByteArray} {M' : GM} {P : Int32 → AH → Prop} (hc : Ct E cc' M' [.ref a] h (pI (fun r h' => P r h')) noX) (hk : gCv cc' M' 0) (hlk : Cond.methodLink own index M'.y ∈ lw_all) (ha : h a = some (t, gO ci fs)) (hcl : gCl[ci]? = some q) (hq : q.1 = M'.y.cls) (hR : M'.rm.frames + 1 ≤ M.rm.frames ∧ 8 + (M'.nL + 11) + M'.rm.locals ≤ M.rm.locals) (hz : M'.rm.cells = 0 ∧ M'.rm.slots = 0) (hf : k ≤ M.rm.cells ∧ n ≤ M.rm.slots) (hcat : (st.map fun v => v.category).sum ≤ 8) (d : decode cc pc = .ok (.invokevirtual index, 3)) (kk : ∀ (r : Int32) (h' : AH), P r h' → V E cc own M Po Px X h' k n (pc + 3) ls (.int r :: st)) : V E cc own M Po Px X h k n pc ls (.ref a :: st) := by
  obtain ⟨z1, z2⟩ := hz
  refine g_callV (av := []) hc hk hlk ha hcl hq hR (by rw [z1, z2]; exact hf) rfl hcat d (fun _ _ _ z => z.elim) (fun v h' z => by
    obtain ⟨r, rfl, p⟩ := z
    rw [z1, z2]
    exact kk r h' p)
theorem g_V0i0x {index a t ci : Nat} {fs : List Value} {q : vw_C} {cc' : ByteArray} {M' : GM} {P : Int32 → AH → Prop} {Px' : String → Nat → AH → Prop} (hc : Ct E cc' M' [.ref a] h (pI (fun r h' => P r h')) Px') (hk : gCv cc' M' 0) (hlk : Cond.methodLink own index M'.y ∈ lw_all) (ha : h a = some (t, gO ci fs)) (hcl : gCl[ci]? = some q) (hq : q.1 = M'.y.cls) (hR : M'.rm.frames + 1 ≤ M.rm.frames ∧ 8 + (M'.nL + 11) + M'.rm.locals ≤ M.rm.locals) (hz : M'.rm.cells = 0 ∧ M'.rm.slots = 0) (hf : k ≤ M.rm.cells ∧ n ≤ M.rm.slots) (hcat : (st.map fun v => v.category).sum ≤ 8) (d : decode cc pc = .ok (.invokevirtual index, 3)) (kx : ∀ (C : String) (q : Nat) (h' : AH), Px' C q h' → VX E cc own M Po Px X h' k n pc ls C q) (kk : ∀ (r : Int32) (h' : AH), P r h' → V E cc own M Po Px X h' k n (pc + 3) ls (.int r :: st)) : V E cc own M Po Px X h k n pc ls (.ref a :: st) := by
  obtain ⟨z1, z2⟩ := hz
  refine g_callV (av := []) hc hk hlk ha hcl hq hR (by rw [z1, z2]; exact hf) rfl hcat d (fun C q h' z => by rw [z1, z2]; exact kx C q h' z) (fun v h' z => by
    obtain ⟨r, rfl, p⟩ := z
    rw [z1, z2]
    exact kk r h' p)
theorem g_V0i {index a t ci : Nat} {fs : List Value} {q : vw_C} {cc' : ByteArray} {M' : GM} {P : Int32 → AH → Prop} (hc : Ct E cc' M' [.ref a] h (pI (fun r h' => P r h')) noX) (hk : gCv cc' M' 0) (hlk : Cond.methodLink own index M'.y ∈ lw_all) (ha : h a = some (t, gO ci fs)) (hcl : gCl[ci]? = some q) (hq : q.1 = M'.y.cls) (hR : M'.rm.frames + 1 ≤ M.rm.frames ∧ 8 + (M'.nL + 11) + M'.rm.locals ≤ M.rm.locals) (hf : k + M'.rm.cells ≤ M.rm.cells ∧ n + M'.rm.slots ≤ M.rm.slots) (hcat : (st.map fun v => v.category).sum ≤ 8) (d : decode cc pc = .ok (.invokevirtual index, 3)) (kk : ∀ (r : Int32) (h' : AH), P r h' → V E cc own M Po Px X h' (k + M'.rm.cells) (n + M'.rm.slots) (pc + 3) ls (.int r :: st)) : V E cc own M Po Px X h k n pc ls (.ref a :: st) := g_callV (av := []) hc hk hlk ha hcl hq hR hf rfl hcat d (fun _ _ _ z => z.elim) (fun v h' z => by
    obtain ⟨r, rfl, p⟩ := z
    exact kk r h' p)
theorem g_V0ix {index a t ci : Nat} {fs : List Value} {q : vw_C} {cc' : ByteArray} {M' : GM} {P : Int32 → AH → Prop} {Px' : String → Nat → AH → Prop} (hc : Ct E cc' M' [.ref a] h (pI (fun r h' => P r h')) Px') (hk : gCv cc' M' 0) (hlk : Cond.methodLink own index M'.y ∈ lw_all) (ha : h a = some (t, gO ci fs)) (hcl : gCl[ci]? = some q) (hq : q.1 = M'.y.cls) (hR : M'.rm.frames + 1 ≤ M.rm.frames ∧ 8 + (M'.nL + 11) + M'.rm.locals ≤ M.rm.locals) (hf : k + M'.rm.cells ≤ M.rm.cells ∧ n + M'.rm.slots ≤ M.rm.slots) (hcat : (st.map fun v => v.category).sum ≤ 8) (d : decode cc pc = .ok (.invokevirtual index, 3)) (kx : ∀ (C : String) (q : Nat) (h' : AH), Px' C q h' → VX E cc own M Po Px X h' (k + M'.rm.cells) (n + M'.rm.slots) pc ls C q) (kk : ∀ (r : Int32) (h' : AH), P r h' → V E cc own M Po Px X h' (k + M'.rm.cells) (n + M'.rm.slots) (pc + 3) ls (.int r :: st)) : V E cc own M Po Px X h k n pc ls (.ref a :: st) := g_callV (av := []) hc hk hlk ha hcl hq hR hf rfl hcat d kx (fun v h' z => by
    obtain ⟨r, rfl, p⟩ := z
    exact kk r h' p)
theorem g_V0n0 {index a t ci : Nat} {fs : List Value} {q : vw_C} {cc' : ByteArray} {M' : GM} {P : Nat → AH → Prop} (hc : Ct E cc' M' [.ref a] h (pN (fun r h' => P r h')) noX) (hk : gCv cc' M' 0) (hlk : Cond.methodLink own index M'.y ∈ lw_all) (ha : h a = some (t, gO ci fs)) (hcl : gCl[ci]? = some q) (hq : q.1 = M'.y.cls) (hR : M'.rm.frames + 1 ≤ M.rm.frames ∧ 8 + (M'.nL + 11) + M'.rm.locals ≤ M.rm.locals) (hz : M'.rm.cells = 0 ∧ M'.rm.slots = 0) (hf : k ≤ M.rm.cells ∧ n ≤ M.rm.slots) (hcat : (st.map fun v => v.category).sum ≤ 8) (d : decode cc pc = .ok (.invokevirtual index, 3)) (kk : ∀ (r : Nat) (h' : AH), P r h' → V E cc own M Po Px X h' k n (pc + 3) ls (.int (nI r) :: st)) : V E cc own M Po Px X h k n pc ls (.ref a :: st) := by
  obtain ⟨z1, z2⟩ := hz
  refine g_callV (av := []) hc hk hlk ha hcl hq hR (by rw [z1, z2]; exact hf) rfl hcat d (fun _ _ _ z => z.elim) (fun v h' z => by
    obtain ⟨r, rfl, p⟩ := z
    rw [z1, z2]
    exact kk r h' p)
theorem g_V0n0x {index a t ci : Nat} {fs : List Value} {q : vw_C} {cc' : ByteArray} {M' : GM} {P : Nat → AH → Prop} {Px' : String → Nat → AH → Prop} (hc : Ct E cc' M' [.ref a] h (pN (fun r h' => P r h')) Px') (hk : gCv cc' M' 0) (hlk : Cond.methodLink own index M'.y ∈ lw_all) (ha : h a = some (t, gO ci fs)) (hcl : gCl[ci]? = some q) (hq : q.1 = M'.y.cls) (hR : M'.rm.frames + 1 ≤ M.rm.frames ∧ 8 + (M'.nL + 11) + M'.rm.locals ≤ M.rm.locals) (hz : M'.rm.cells = 0 ∧ M'.rm.slots = 0) (hf : k ≤ M.rm.cells ∧ n ≤ M.rm.slots) (hcat : (st.map fun v => v.category).sum ≤ 8) (d : decode cc pc = .ok (.invokevirtual index, 3)) (kx : ∀ (C : String) (q : Nat) (h' : AH), Px' C q h' → VX E cc own M Po Px X h' k n pc ls C q) (kk : ∀ (r : Nat) (h' : AH), P r h' → V E cc own M Po Px X h' k n (pc + 3) ls (.int (nI r) :: st)) : V E cc own M Po Px X h k n pc ls (.ref a :: st) := by
  obtain ⟨z1, z2⟩ := hz
  refine g_callV (av := []) hc hk hlk ha hcl hq hR (by rw [z1, z2]; exact hf) rfl hcat d (fun C q h' z => by rw [z1, z2]; exact kx C q h' z) (fun v h' z => by
    obtain ⟨r, rfl, p⟩ := z
    rw [z1, z2]
    exact kk r h' p)
theorem g_V0n {index a t ci : Nat} {fs : List Value} {q : vw_C} {cc' : ByteArray} {M' : GM} {P : Nat → AH → Prop} (hc : Ct E cc' M' [.ref a] h (pN (fun r h' => P r h')) noX) (hk : gCv cc' M' 0) (hlk : Cond.methodLink own index M'.y ∈ lw_all) (ha : h a = some (t, gO ci fs)) (hcl : gCl[ci]? = some q) (hq : q.1 = M'.y.cls) (hR : M'.rm.frames + 1 ≤ M.rm.frames ∧ 8 + (M'.nL + 11) + M'.rm.locals ≤ M.rm.locals) (hf : k + M'.rm.cells ≤ M.rm.cells ∧ n + M'.rm.slots ≤ M.rm.slots) (hcat : (st.map fun v => v.category).sum ≤ 8) (d : decode cc pc = .ok (.invokevirtual index, 3)) (kk : ∀ (r : Nat) (h' : AH), P r h' → V E cc own M Po Px X h' (k + M'.rm.cells) (n + M'.rm.slots) (pc + 3) ls (.int (nI r) :: st)) : V E cc own M Po Px X h k n pc ls (.ref a :: st) := g_callV (av := []) hc hk hlk ha hcl hq hR hf rfl hcat d (fun _ _ _ z => z.elim) (fun v h' z => by
    obtain ⟨r, rfl, p⟩ := z
    exact kk r h' p)
theorem g_V0nx {index a t ci : Nat} {fs : List Value} {q : vw_C} {cc' : ByteArray} {M' : GM} {P : Nat → AH → Prop} {Px' : String → Nat → AH → Prop} (hc : Ct E cc' M' [.ref a] h (pN (fun r h' => P r h')) Px') (hk : gCv cc' M' 0) (hlk : Cond.methodLink own index M'.y ∈ lw_all) (ha : h a = some (t, gO ci fs)) (hcl : gCl[ci]? = some q) (hq : q.1 = M'.y.cls) (hR : M'.rm.frames + 1 ≤ M.rm.frames ∧ 8 + (M'.nL + 11) + M'.rm.locals ≤ M.rm.locals) (hf : k + M'.rm.cells ≤ M.rm.cells ∧ n + M'.rm.slots ≤ M.rm.slots) (hcat : (st.map fun v => v.category).sum ≤ 8) (d : decode cc pc = .ok (.invokevirtual index, 3)) (kx : ∀ (C : String) (q : Nat) (h' : AH), Px' C q h' → VX E cc own M Po Px X h' (k + M'.rm.cells) (n + M'.rm.slots) pc ls C q) (kk : ∀ (r : Nat) (h' : AH), P r h' → V E cc own M Po Px X h' (k + M'.rm.cells) (n + M'.rm.slots) (pc + 3) ls (.int (nI r) :: st)) : V E cc own M Po Px X h k n pc ls (.ref a :: st) := g_callV (av := []) hc hk hlk ha hcl hq hR hf rfl hcat d kx (fun v h' z => by
    obtain ⟨r, rfl, p⟩ := z
    exact kk r h' p)
theorem g_V0l0 {index a t ci : Nat} {fs : List Value} {q : vw_C} {cc' : ByteArray} {M' : GM} {P : Int64 → AH → Prop} (hc : Ct E cc' M' [.ref a] h (pL (fun r h' => P r h')) noX) (hk : gCv cc' M' 0) (hlk : Cond.methodLink own index M'.y ∈ lw_all) (ha : h a = some (t, gO ci fs)) (hcl : gCl[ci]? = some q) (hq : q.1 = M'.y.cls) (hR : M'.rm.frames + 1 ≤ M.rm.frames ∧ 8 + (M'.nL + 11) + M'.rm.locals ≤ M.rm.locals) (hz : M'.rm.cells = 0 ∧ M'.rm.slots = 0) (hf : k ≤ M.rm.cells ∧ n ≤ M.rm.slots) (hcat : (st.map fun v => v.category).sum ≤ 8) (d : decode cc pc = .ok (.invokevirtual index, 3)) (kk : ∀ (r : Int64) (h' : AH), P r h' → V E cc own M Po Px X h' k n (pc + 3) ls (.long r :: st)) : V E cc own M Po Px X h k n pc ls (.ref a :: st) := by
  obtain ⟨z1, z2⟩ := hz
  refine g_callV (av := []) hc hk hlk ha hcl hq hR (by rw [z1, z2]; exact hf) rfl hcat d (fun _ _ _ z => z.elim) (fun v h' z => by
    obtain ⟨r, rfl, p⟩ := z
    rw [z1, z2]
    exact kk r h' p)
theorem g_V0l0x {index a t ci : Nat} {fs : List Value} {q : vw_C} {cc' : ByteArray} {M' : GM} {P : Int64 → AH → Prop} {Px' : String → Nat → AH → Prop} (hc : Ct E cc' M' [.ref a] h (pL (fun r h' => P r h')) Px') (hk : gCv cc' M' 0) (hlk : Cond.methodLink own index M'.y ∈ lw_all) (ha : h a = some (t, gO ci fs)) (hcl : gCl[ci]? = some q) (hq : q.1 = M'.y.cls) (hR : M'.rm.frames + 1 ≤ M.rm.frames ∧ 8 + (M'.nL + 11) + M'.rm.locals ≤ M.rm.locals) (hz : M'.rm.cells = 0 ∧ M'.rm.slots = 0) (hf : k ≤ M.rm.cells ∧ n ≤ M.rm.slots) (hcat : (st.map fun v => v.category).sum ≤ 8) (d : decode cc pc = .ok (.invokevirtual index, 3)) (kx : ∀ (C : String) (q : Nat) (h' : AH), Px' C q h' → VX E cc own M Po Px X h' k n pc ls C q) (kk : ∀ (r : Int64) (h' : AH), P r h' → V E cc own M Po Px X h' k n (pc + 3) ls (.long r :: st)) : V E cc own M Po Px X h k n pc ls (.ref a :: st) := by
  obtain ⟨z1, z2⟩ := hz
  refine g_callV (av := []) hc hk hlk ha hcl hq hR (by rw [z1, z2]; exact hf) rfl hcat d (fun C q h' z => by rw [z1, z2]; exact kx C q h' z) (fun v h' z => by
    obtain ⟨r, rfl, p⟩ := z
    rw [z1, z2]
    exact kk r h' p)
theorem g_V0l {index a t ci : Nat} {fs : List Value} {q : vw_C} {cc' : ByteArray} {M' : GM} {P : Int64 → AH → Prop} (hc : Ct E cc' M' [.ref a] h (pL (fun r h' => P r h')) noX) (hk : gCv cc' M' 0) (hlk : Cond.methodLink own index M'.y ∈ lw_all) (ha : h a = some (t, gO ci fs)) (hcl : gCl[ci]? = some q) (hq : q.1 = M'.y.cls) (hR : M'.rm.frames + 1 ≤ M.rm.frames ∧ 8 + (M'.nL + 11) + M'.rm.locals ≤ M.rm.locals) (hf : k + M'.rm.cells ≤ M.rm.cells ∧ n + M'.rm.slots ≤ M.rm.slots) (hcat : (st.map fun v => v.category).sum ≤ 8) (d : decode cc pc = .ok (.invokevirtual index, 3)) (kk : ∀ (r : Int64) (h' : AH), P r h' → V E cc own M Po Px X h' (k + M'.rm.cells) (n + M'.rm.slots) (pc + 3) ls (.long r :: st)) : V E cc own M Po Px X h k n pc ls (.ref a :: st) := g_callV (av := []) hc hk hlk ha hcl hq hR hf rfl hcat d (fun _ _ _ z => z.elim) (fun v h' z => by
    obtain ⟨r, rfl, p⟩ := z
    exact kk r h' p)
theorem g_V0lx {index a t ci : Nat} {fs : List Value} {q : vw_C} {cc' : ByteArray} {M' : GM} {P : Int64 → AH → Prop} {Px' : String → Nat → AH → Prop} (hc : Ct E cc' M' [.ref a] h (pL (fun r h' => P r h')) Px') (hk : gCv cc' M' 0) (hlk : Cond.methodLink own index M'.y ∈ lw_all) (ha : h a = some (t, gO ci fs)) (hcl : gCl[ci]? = some q) (hq : q.1 = M'.y.cls) (hR : M'.rm.frames + 1 ≤ M.rm.frames ∧ 8 + (M'.nL + 11) + M'.rm.locals ≤ M.rm.locals) (hf : k + M'.rm.cells ≤ M.rm.cells ∧ n + M'.rm.slots ≤ M.rm.slots) (hcat : (st.map fun v => v.category).sum ≤ 8) (d : decode cc pc = .ok (.invokevirtual index, 3)) (kx : ∀ (C : String) (q : Nat) (h' : AH), Px' C q h' → VX E cc own M Po Px X h' (k + M'.rm.cells) (n + M'.rm.slots) pc ls C q) (kk : ∀ (r : Int64) (h' : AH), P r h' → V E cc own M Po Px X h' (k + M'.rm.cells) (n + M'.rm.slots) (pc + 3) ls (.long r :: st)) : V E cc own M Po Px X h k n pc ls (.ref a :: st) := g_callV (av := []) hc hk hlk ha hcl hq hR hf rfl hcat d kx (fun v h' z => by
    obtain ⟨r, rfl, p⟩ := z
    exact kk r h' p)
theorem g_V0r0 {index a t ci : Nat} {fs : List Value} {q : vw_C} {cc' : ByteArray} {M' : GM} {P : Nat → AH → Prop} (hc : Ct E cc' M' [.ref a] h (pR (fun r h' => P r h')) noX) (hk : gCv cc' M' 0) (hlk : Cond.methodLink own index M'.y ∈ lw_all) (ha : h a = some (t, gO ci fs)) (hcl : gCl[ci]? = some q) (hq : q.1 = M'.y.cls) (hR : M'.rm.frames + 1 ≤ M.rm.frames ∧ 8 + (M'.nL + 11) + M'.rm.locals ≤ M.rm.locals) (hz : M'.rm.cells = 0 ∧ M'.rm.slots = 0) (hf : k ≤ M.rm.cells ∧ n ≤ M.rm.slots) (hcat : (st.map fun v => v.category).sum ≤ 8) (d : decode cc pc = .ok (.invokevirtual index, 3)) (kk : ∀ (r : Nat) (h' : AH), P r h' → V E cc own M Po Px X h' k n (pc + 3) ls (.ref r :: st)) : V E cc own M Po Px X h k n pc ls (.ref a :: st) := by
  obtain ⟨z1, z2⟩ := hz
  refine g_callV (av := []) hc hk hlk ha hcl hq hR (by rw [z1, z2]; exact hf) rfl hcat d (fun _ _ _ z => z.elim) (fun v h' z => by
    obtain ⟨r, rfl, p⟩ := z
    rw [z1, z2]
    exact kk r h' p)
theorem g_V0r0x {index a t ci : Nat} {fs : List Value} {q : vw_C} {cc' : ByteArray} {M' : GM} {P : Nat → AH → Prop} {Px' : String → Nat → AH → Prop} (hc : Ct E cc' M' [.ref a] h (pR (fun r h' => P r h')) Px') (hk : gCv cc' M' 0) (hlk : Cond.methodLink own index M'.y ∈ lw_all) (ha : h a = some (t, gO ci fs)) (hcl : gCl[ci]? = some q) (hq : q.1 = M'.y.cls) (hR : M'.rm.frames + 1 ≤ M.rm.frames ∧ 8 + (M'.nL + 11) + M'.rm.locals ≤ M.rm.locals) (hz : M'.rm.cells = 0 ∧ M'.rm.slots = 0) (hf : k ≤ M.rm.cells ∧ n ≤ M.rm.slots) (hcat : (st.map fun v => v.category).sum ≤ 8) (d : decode cc pc = .ok (.invokevirtual index, 3)) (kx : ∀ (C : String) (q : Nat) (h' : AH), Px' C q h' → VX E cc own M Po Px X h' k n pc ls C q) (kk : ∀ (r : Nat) (h' : AH), P r h' → V E cc own M Po Px X h' k n (pc + 3) ls (.ref r :: st)) : V E cc own M Po Px X h k n pc ls (.ref a :: st) := by
  obtain ⟨z1, z2⟩ := hz
  refine g_callV (av := []) hc hk hlk ha hcl hq hR (by rw [z1, z2]; exact hf) rfl hcat d (fun C q h' z => by rw [z1, z2]; exact kx C q h' z) (fun v h' z => by
    obtain ⟨r, rfl, p⟩ := z
    rw [z1, z2]
    exact kk r h' p)
theorem g_V0r {index a t ci : Nat} {fs : List Value} {q : vw_C} {cc' : ByteArray} {M' : GM} {P : Nat → AH → Prop} (hc : Ct E cc' M' [.ref a] h (pR (fun r h' => P r h')) noX) (hk : gCv cc' M' 0) (hlk : Cond.methodLink own index M'.y ∈ lw_all) (ha : h a = some (t, gO ci fs)) (hcl : gCl[ci]? = some q) (hq : q.1 = M'.y.cls) (hR : M'.rm.frames + 1 ≤ M.rm.frames ∧ 8 + (M'.nL + 11) + M'.rm.locals ≤ M.rm.locals) (hf : k + M'.rm.cells ≤ M.rm.cells ∧ n + M'.rm.slots ≤ M.rm.slots) (hcat : (st.map fun v => v.category).sum ≤ 8) (d : decode cc pc = .ok (.invokevirtual index, 3)) (kk : ∀ (r : Nat) (h' : AH), P r h' → V E cc own M Po Px X h' (k + M'.rm.cells) (n + M'.rm.slots) (pc + 3) ls (.ref r :: st)) : V E cc own M Po Px X h k n pc ls (.ref a :: st) := g_callV (av := []) hc hk hlk ha hcl hq hR hf rfl hcat d (fun _ _ _ z => z.elim) (fun v h' z => by
    obtain ⟨r, rfl, p⟩ := z
    exact kk r h' p)
theorem g_V0rx {index a t ci : Nat} {fs : List Value} {q : vw_C} {cc' : ByteArray} {M' : GM} {P : Nat → AH → Prop} {Px' : String → Nat → AH → Prop} (hc : Ct E cc' M' [.ref a] h (pR (fun r h' => P r h')) Px') (hk : gCv cc' M' 0) (hlk : Cond.methodLink own index M'.y ∈ lw_all) (ha : h a = some (t, gO ci fs)) (hcl : gCl[ci]? = some q) (hq : q.1 = M'.y.cls) (hR : M'.rm.frames + 1 ≤ M.rm.frames ∧ 8 + (M'.nL + 11) + M'.rm.locals ≤ M.rm.locals) (hf : k + M'.rm.cells ≤ M.rm.cells ∧ n + M'.rm.slots ≤ M.rm.slots) (hcat : (st.map fun v => v.category).sum ≤ 8) (d : decode cc pc = .ok (.invokevirtual index, 3)) (kx : ∀ (C : String) (q : Nat) (h' : AH), Px' C q h' → VX E cc own M Po Px X h' (k + M'.rm.cells) (n + M'.rm.slots) pc ls C q) (kk : ∀ (r : Nat) (h' : AH), P r h' → V E cc own M Po Px X h' (k + M'.rm.cells) (n + M'.rm.slots) (pc + 3) ls (.ref r :: st)) : V E cc own M Po Px X h k n pc ls (.ref a :: st) := g_callV (av := []) hc hk hlk ha hcl hq hR hf rfl hcat d kx (fun v h' z => by
    obtain ⟨r, rfl, p⟩ := z
    exact kk r h' p)
theorem g_V0q0 {index a t ci : Nat} {fs : List Value} {q : vw_C} {cc' : ByteArray} {M' : GM} {P : Option Nat → AH → Prop} (hc : Ct E cc' M' [.ref a] h (pQ (fun r h' => P r h')) noX) (hk : gCv cc' M' 0) (hlk : Cond.methodLink own index M'.y ∈ lw_all) (ha : h a = some (t, gO ci fs)) (hcl : gCl[ci]? = some q) (hq : q.1 = M'.y.cls) (hR : M'.rm.frames + 1 ≤ M.rm.frames ∧ 8 + (M'.nL + 11) + M'.rm.locals ≤ M.rm.locals) (hz : M'.rm.cells = 0 ∧ M'.rm.slots = 0) (hf : k ≤ M.rm.cells ∧ n ≤ M.rm.slots) (hcat : (st.map fun v => v.category).sum ≤ 8) (d : decode cc pc = .ok (.invokevirtual index, 3)) (kk : ∀ (r : Option Nat) (h' : AH), P r h' → V E cc own M Po Px X h' k n (pc + 3) ls (va_rf r :: st)) : V E cc own M Po Px X h k n pc ls (.ref a :: st) := by
  obtain ⟨z1, z2⟩ := hz
  refine g_callV (av := []) hc hk hlk ha hcl hq hR (by rw [z1, z2]; exact hf) rfl hcat d (fun _ _ _ z => z.elim) (fun v h' z => by
    obtain ⟨r, rfl, p⟩ := z
    rw [z1, z2]
    exact kk r h' p)
theorem g_V0q0x {index a t ci : Nat} {fs : List Value} {q : vw_C} {cc' : ByteArray} {M' : GM} {P : Option Nat → AH → Prop} {Px' : String → Nat → AH → Prop} (hc : Ct E cc' M' [.ref a] h (pQ (fun r h' => P r h')) Px') (hk : gCv cc' M' 0) (hlk : Cond.methodLink own index M'.y ∈ lw_all) (ha : h a = some (t, gO ci fs)) (hcl : gCl[ci]? = some q) (hq : q.1 = M'.y.cls) (hR : M'.rm.frames + 1 ≤ M.rm.frames ∧ 8 + (M'.nL + 11) + M'.rm.locals ≤ M.rm.locals) (hz : M'.rm.cells = 0 ∧ M'.rm.slots = 0) (hf : k ≤ M.rm.cells ∧ n ≤ M.rm.slots) (hcat : (st.map fun v => v.category).sum ≤ 8) (d : decode cc pc = .ok (.invokevirtual index, 3)) (kx : ∀ (C : String) (q : Nat) (h' : AH), Px' C q h' → VX E cc own M Po Px X h' k n pc ls C q) (kk : ∀ (r : Option Nat) (h' : AH), P r h' → V E cc own M Po Px X h' k n (pc + 3) ls (va_rf r :: st)) : V E cc own M Po Px X h k n pc ls (.ref a :: st) := by
  obtain ⟨z1, z2⟩ := hz
  refine g_callV (av := []) hc hk hlk ha hcl hq hR (by rw [z1, z2]; exact hf) rfl hcat d (fun C q h' z => by rw [z1, z2]; exact kx C q h' z) (fun v h' z => by
    obtain ⟨r, rfl, p⟩ := z
    rw [z1, z2]
    exact kk r h' p)
theorem g_V0q {index a t ci : Nat} {fs : List Value} {q : vw_C} {cc' : ByteArray} {M' : GM} {P : Option Nat → AH → Prop} (hc : Ct E cc' M' [.ref a] h (pQ (fun r h' => P r h')) noX) (hk : gCv cc' M' 0) (hlk : Cond.methodLink own index M'.y ∈ lw_all) (ha : h a = some (t, gO ci fs)) (hcl : gCl[ci]? = some q) (hq : q.1 = M'.y.cls) (hR : M'.rm.frames + 1 ≤ M.rm.frames ∧ 8 + (M'.nL + 11) + M'.rm.locals ≤ M.rm.locals) (hf : k + M'.rm.cells ≤ M.rm.cells ∧ n + M'.rm.slots ≤ M.rm.slots) (hcat : (st.map fun v => v.category).sum ≤ 8) (d : decode cc pc = .ok (.invokevirtual index, 3)) (kk : ∀ (r : Option Nat) (h' : AH), P r h' → V E cc own M Po Px X h' (k + M'.rm.cells) (n + M'.rm.slots) (pc + 3) ls (va_rf r :: st)) : V E cc own M Po Px X h k n pc ls (.ref a :: st) := g_callV (av := []) hc hk hlk ha hcl hq hR hf rfl hcat d (fun _ _ _ z => z.elim) (fun v h' z => by
    obtain ⟨r, rfl, p⟩ := z
    exact kk r h' p)
theorem g_V0qx {index a t ci : Nat} {fs : List Value} {q : vw_C} {cc' : ByteArray} {M' : GM} {P : Option Nat → AH → Prop} {Px' : String → Nat → AH → Prop} (hc : Ct E cc' M' [.ref a] h (pQ (fun r h' => P r h')) Px') (hk : gCv cc' M' 0) (hlk : Cond.methodLink own index M'.y ∈ lw_all) (ha : h a = some (t, gO ci fs)) (hcl : gCl[ci]? = some q) (hq : q.1 = M'.y.cls) (hR : M'.rm.frames + 1 ≤ M.rm.frames ∧ 8 + (M'.nL + 11) + M'.rm.locals ≤ M.rm.locals) (hf : k + M'.rm.cells ≤ M.rm.cells ∧ n + M'.rm.slots ≤ M.rm.slots) (hcat : (st.map fun v => v.category).sum ≤ 8) (d : decode cc pc = .ok (.invokevirtual index, 3)) (kx : ∀ (C : String) (q : Nat) (h' : AH), Px' C q h' → VX E cc own M Po Px X h' (k + M'.rm.cells) (n + M'.rm.slots) pc ls C q) (kk : ∀ (r : Option Nat) (h' : AH), P r h' → V E cc own M Po Px X h' (k + M'.rm.cells) (n + M'.rm.slots) (pc + 3) ls (va_rf r :: st)) : V E cc own M Po Px X h k n pc ls (.ref a :: st) := g_callV (av := []) hc hk hlk ha hcl hq hR hf rfl hcat d kx (fun v h' z => by
    obtain ⟨r, rfl, p⟩ := z
    exact kk r h' p)
theorem g_V0v0 {index a t ci : Nat} {fs : List Value} {q : vw_C} {cc' : ByteArray} {M' : GM} {P : AH → Prop} (hc : Ct E cc' M' [.ref a] h (pV (fun h' => P h')) noX) (hk : gCv cc' M' 0) (hlk : Cond.methodLink own index M'.y ∈ lw_all) (ha : h a = some (t, gO ci fs)) (hcl : gCl[ci]? = some q) (hq : q.1 = M'.y.cls) (hR : M'.rm.frames + 1 ≤ M.rm.frames ∧ 8 + (M'.nL + 11) + M'.rm.locals ≤ M.rm.locals) (hz : M'.rm.cells = 0 ∧ M'.rm.slots = 0) (hf : k ≤ M.rm.cells ∧ n ≤ M.rm.slots) (hcat : (st.map fun v => v.category).sum ≤ 8) (d : decode cc pc = .ok (.invokevirtual index, 3)) (kk : ∀ (h' : AH), P h' → V E cc own M Po Px X h' k n (pc + 3) ls st) : V E cc own M Po Px X h k n pc ls (.ref a :: st) := by
  obtain ⟨z1, z2⟩ := hz
  refine g_callV (av := []) hc hk hlk ha hcl hq hR (by rw [z1, z2]; exact hf) rfl hcat d (fun _ _ _ z => z.elim) (fun v h' z => by
    obtain ⟨rfl, p⟩ := z
    rw [z1, z2]
    exact kk h' p)
theorem g_V0v0x {index a t ci : Nat} {fs : List Value} {q : vw_C} {cc' : ByteArray} {M' : GM} {P : AH → Prop} {Px' : String → Nat → AH → Prop} (hc : Ct E cc' M' [.ref a] h (pV (fun h' => P h')) Px') (hk : gCv cc' M' 0) (hlk : Cond.methodLink own index M'.y ∈ lw_all) (ha : h a = some (t, gO ci fs)) (hcl : gCl[ci]? = some q) (hq : q.1 = M'.y.cls) (hR : M'.rm.frames + 1 ≤ M.rm.frames ∧ 8 + (M'.nL + 11) + M'.rm.locals ≤ M.rm.locals) (hz : M'.rm.cells = 0 ∧ M'.rm.slots = 0) (hf : k ≤ M.rm.cells ∧ n ≤ M.rm.slots) (hcat : (st.map fun v => v.category).sum ≤ 8) (d : decode cc pc = .ok (.invokevirtual index, 3)) (kx : ∀ (C : String) (q : Nat) (h' : AH), Px' C q h' → VX E cc own M Po Px X h' k n pc ls C q) (kk : ∀ (h' : AH), P h' → V E cc own M Po Px X h' k n (pc + 3) ls st) : V E cc own M Po Px X h k n pc ls (.ref a :: st) := by
  obtain ⟨z1, z2⟩ := hz
  refine g_callV (av := []) hc hk hlk ha hcl hq hR (by rw [z1, z2]; exact hf) rfl hcat d (fun C q h' z => by rw [z1, z2]; exact kx C q h' z) (fun v h' z => by
    obtain ⟨rfl, p⟩ := z
    rw [z1, z2]
    exact kk h' p)
theorem g_V0v {index a t ci : Nat} {fs : List Value} {q : vw_C} {cc' : ByteArray} {M' : GM} {P : AH → Prop} (hc : Ct E cc' M' [.ref a] h (pV (fun h' => P h')) noX) (hk : gCv cc' M' 0) (hlk : Cond.methodLink own index M'.y ∈ lw_all) (ha : h a = some (t, gO ci fs)) (hcl : gCl[ci]? = some q) (hq : q.1 = M'.y.cls) (hR : M'.rm.frames + 1 ≤ M.rm.frames ∧ 8 + (M'.nL + 11) + M'.rm.locals ≤ M.rm.locals) (hf : k + M'.rm.cells ≤ M.rm.cells ∧ n + M'.rm.slots ≤ M.rm.slots) (hcat : (st.map fun v => v.category).sum ≤ 8) (d : decode cc pc = .ok (.invokevirtual index, 3)) (kk : ∀ (h' : AH), P h' → V E cc own M Po Px X h' (k + M'.rm.cells) (n + M'.rm.slots) (pc + 3) ls st) : V E cc own M Po Px X h k n pc ls (.ref a :: st) := g_callV (av := []) hc hk hlk ha hcl hq hR hf rfl hcat d (fun _ _ _ z => z.elim) (fun v h' z => by
    obtain ⟨rfl, p⟩ := z
    exact kk h' p)
theorem g_V0vx {index a t ci : Nat} {fs : List Value} {q : vw_C} {cc' : ByteArray} {M' : GM} {P : AH → Prop} {Px' : String → Nat → AH → Prop} (hc : Ct E cc' M' [.ref a] h (pV (fun h' => P h')) Px') (hk : gCv cc' M' 0) (hlk : Cond.methodLink own index M'.y ∈ lw_all) (ha : h a = some (t, gO ci fs)) (hcl : gCl[ci]? = some q) (hq : q.1 = M'.y.cls) (hR : M'.rm.frames + 1 ≤ M.rm.frames ∧ 8 + (M'.nL + 11) + M'.rm.locals ≤ M.rm.locals) (hf : k + M'.rm.cells ≤ M.rm.cells ∧ n + M'.rm.slots ≤ M.rm.slots) (hcat : (st.map fun v => v.category).sum ≤ 8) (d : decode cc pc = .ok (.invokevirtual index, 3)) (kx : ∀ (C : String) (q : Nat) (h' : AH), Px' C q h' → VX E cc own M Po Px X h' (k + M'.rm.cells) (n + M'.rm.slots) pc ls C q) (kk : ∀ (h' : AH), P h' → V E cc own M Po Px X h' (k + M'.rm.cells) (n + M'.rm.slots) (pc + 3) ls st) : V E cc own M Po Px X h k n pc ls (.ref a :: st) := g_callV (av := []) hc hk hlk ha hcl hq hR hf rfl hcat d kx (fun v h' z => by
    obtain ⟨rfl, p⟩ := z
    exact kk h' p)
theorem g_V1i0 {index a t ci : Nat} {fs : List Value} {q : vw_C} {cc' : ByteArray} {M' : GM} {a1 : Value} {P : Int32 → AH → Prop} (hc : Ct E cc' M' [.ref a, a1] h (pI (fun r h' => P r h')) noX) (hk : gCv cc' M' 1) (hlk : Cond.methodLink own index M'.y ∈ lw_all) (ha : h a = some (t, gO ci fs)) (hcl : gCl[ci]? = some q) (hq : q.1 = M'.y.cls) (hR : M'.rm.frames + 1 ≤ M.rm.frames ∧ 8 + (M'.nL + 11) + M'.rm.locals ≤ M.rm.locals) (hz : M'.rm.cells = 0 ∧ M'.rm.slots = 0) (hf : k ≤ M.rm.cells ∧ n ≤ M.rm.slots) (hcat : (st.map fun v => v.category).sum ≤ 8) (d : decode cc pc = .ok (.invokevirtual index, 3)) (kk : ∀ (r : Int32) (h' : AH), P r h' → V E cc own M Po Px X h' k n (pc + 3) ls (.int r :: st)) : V E cc own M Po Px X h k n pc ls (a1 :: .ref a :: st) := by
  obtain ⟨z1, z2⟩ := hz
  refine g_callV (av := [a1]) hc hk hlk ha hcl hq hR (by rw [z1, z2]; exact hf) rfl hcat d (fun _ _ _ z => z.elim) (fun v h' z => by
    obtain ⟨r, rfl, p⟩ := z
    rw [z1, z2]
    exact kk r h' p)
theorem g_V1i0x {index a t ci : Nat} {fs : List Value} {q : vw_C} {cc' : ByteArray} {M' : GM} {a1 : Value} {P : Int32 → AH → Prop} {Px' : String → Nat → AH → Prop} (hc : Ct E cc' M' [.ref a, a1] h (pI (fun r h' => P r h')) Px') (hk : gCv cc' M' 1) (hlk : Cond.methodLink own index M'.y ∈ lw_all) (ha : h a = some (t, gO ci fs)) (hcl : gCl[ci]? = some q) (hq : q.1 = M'.y.cls) (hR : M'.rm.frames + 1 ≤ M.rm.frames ∧ 8 + (M'.nL + 11) + M'.rm.locals ≤ M.rm.locals) (hz : M'.rm.cells = 0 ∧ M'.rm.slots = 0) (hf : k ≤ M.rm.cells ∧ n ≤ M.rm.slots) (hcat : (st.map fun v => v.category).sum ≤ 8) (d : decode cc pc = .ok (.invokevirtual index, 3)) (kx : ∀ (C : String) (q : Nat) (h' : AH), Px' C q h' → VX E cc own M Po Px X h' k n pc ls C q) (kk : ∀ (r : Int32) (h' : AH), P r h' → V E cc own M Po Px X h' k n (pc + 3) ls (.int r :: st)) : V E cc own M Po Px X h k n pc ls (a1 :: .ref a :: st) := by
  obtain ⟨z1, z2⟩ := hz
  refine g_callV (av := [a1]) hc hk hlk ha hcl hq hR (by rw [z1, z2]; exact hf) rfl hcat d (fun C q h' z => by rw [z1, z2]; exact kx C q h' z) (fun v h' z => by
    obtain ⟨r, rfl, p⟩ := z
    rw [z1, z2]
    exact kk r h' p)
theorem g_V1i {index a t ci : Nat} {fs : List Value} {q : vw_C} {cc' : ByteArray} {M' : GM} {a1 : Value} {P : Int32 → AH → Prop} (hc : Ct E cc' M' [.ref a, a1] h (pI (fun r h' => P r h')) noX) (hk : gCv cc' M' 1) (hlk : Cond.methodLink own index M'.y ∈ lw_all) (ha : h a = some (t, gO ci fs)) (hcl : gCl[ci]? = some q) (hq : q.1 = M'.y.cls) (hR : M'.rm.frames + 1 ≤ M.rm.frames ∧ 8 + (M'.nL + 11) + M'.rm.locals ≤ M.rm.locals) (hf : k + M'.rm.cells ≤ M.rm.cells ∧ n + M'.rm.slots ≤ M.rm.slots) (hcat : (st.map fun v => v.category).sum ≤ 8) (d : decode cc pc = .ok (.invokevirtual index, 3)) (kk : ∀ (r : Int32) (h' : AH), P r h' → V E cc own M Po Px X h' (k + M'.rm.cells) (n + M'.rm.slots) (pc + 3) ls (.int r :: st)) : V E cc own M Po Px X h k n pc ls (a1 :: .ref a :: st) := g_callV (av := [a1]) hc hk hlk ha hcl hq hR hf rfl hcat d (fun _ _ _ z => z.elim) (fun v h' z => by
    obtain ⟨r, rfl, p⟩ := z
    exact kk r h' p)
theorem g_V1ix {index a t ci : Nat} {fs : List Value} {q : vw_C} {cc' : ByteArray} {M' : GM} {a1 : Value} {P : Int32 → AH → Prop} {Px' : String → Nat → AH → Prop} (hc : Ct E cc' M' [.ref a, a1] h (pI (fun r h' => P r h')) Px') (hk : gCv cc' M' 1) (hlk : Cond.methodLink own index M'.y ∈ lw_all) (ha : h a = some (t, gO ci fs)) (hcl : gCl[ci]? = some q) (hq : q.1 = M'.y.cls) (hR : M'.rm.frames + 1 ≤ M.rm.frames ∧ 8 + (M'.nL + 11) + M'.rm.locals ≤ M.rm.locals) (hf : k + M'.rm.cells ≤ M.rm.cells ∧ n + M'.rm.slots ≤ M.rm.slots) (hcat : (st.map fun v => v.category).sum ≤ 8) (d : decode cc pc = .ok (.invokevirtual index, 3)) (kx : ∀ (C : String) (q : Nat) (h' : AH), Px' C q h' → VX E cc own M Po Px X h' (k + M'.rm.cells) (n + M'.rm.slots) pc ls C q) (kk : ∀ (r : Int32) (h' : AH), P r h' → V E cc own M Po Px X h' (k + M'.rm.cells) (n + M'.rm.slots) (pc + 3) ls (.int r :: st)) : V E cc own M Po Px X h k n pc ls (a1 :: .ref a :: st) := g_callV (av := [a1]) hc hk hlk ha hcl hq hR hf rfl hcat d kx (fun v h' z => by
    obtain ⟨r, rfl, p⟩ := z
    exact kk r h' p)
theorem g_V1n0 {index a t ci : Nat} {fs : List Value} {q : vw_C} {cc' : ByteArray} {M' : GM} {a1 : Value} {P : Nat → AH → Prop} (hc : Ct E cc' M' [.ref a, a1] h (pN (fun r h' => P r h')) noX) (hk : gCv cc' M' 1) (hlk : Cond.methodLink own index M'.y ∈ lw_all) (ha : h a = some (t, gO ci fs)) (hcl : gCl[ci]? = some q) (hq : q.1 = M'.y.cls) (hR : M'.rm.frames + 1 ≤ M.rm.frames ∧ 8 + (M'.nL + 11) + M'.rm.locals ≤ M.rm.locals) (hz : M'.rm.cells = 0 ∧ M'.rm.slots = 0) (hf : k ≤ M.rm.cells ∧ n ≤ M.rm.slots) (hcat : (st.map fun v => v.category).sum ≤ 8) (d : decode cc pc = .ok (.invokevirtual index, 3)) (kk : ∀ (r : Nat) (h' : AH), P r h' → V E cc own M Po Px X h' k n (pc + 3) ls (.int (nI r) :: st)) : V E cc own M Po Px X h k n pc ls (a1 :: .ref a :: st) := by
  obtain ⟨z1, z2⟩ := hz
  refine g_callV (av := [a1]) hc hk hlk ha hcl hq hR (by rw [z1, z2]; exact hf) rfl hcat d (fun _ _ _ z => z.elim) (fun v h' z => by
    obtain ⟨r, rfl, p⟩ := z
    rw [z1, z2]
    exact kk r h' p)
theorem g_V1n0x {index a t ci : Nat} {fs : List Value} {q : vw_C} {cc' : ByteArray} {M' : GM} {a1 : Value} {P : Nat → AH → Prop} {Px' : String → Nat → AH → Prop} (hc : Ct E cc' M' [.ref a, a1] h (pN (fun r h' => P r h')) Px') (hk : gCv cc' M' 1) (hlk : Cond.methodLink own index M'.y ∈ lw_all) (ha : h a = some (t, gO ci fs)) (hcl : gCl[ci]? = some q) (hq : q.1 = M'.y.cls) (hR : M'.rm.frames + 1 ≤ M.rm.frames ∧ 8 + (M'.nL + 11) + M'.rm.locals ≤ M.rm.locals) (hz : M'.rm.cells = 0 ∧ M'.rm.slots = 0) (hf : k ≤ M.rm.cells ∧ n ≤ M.rm.slots) (hcat : (st.map fun v => v.category).sum ≤ 8) (d : decode cc pc = .ok (.invokevirtual index, 3)) (kx : ∀ (C : String) (q : Nat) (h' : AH), Px' C q h' → VX E cc own M Po Px X h' k n pc ls C q) (kk : ∀ (r : Nat) (h' : AH), P r h' → V E cc own M Po Px X h' k n (pc + 3) ls (.int (nI r) :: st)) : V E cc own M Po Px X h k n pc ls (a1 :: .ref a :: st) := by
  obtain ⟨z1, z2⟩ := hz
  refine g_callV (av := [a1]) hc hk hlk ha hcl hq hR (by rw [z1, z2]; exact hf) rfl hcat d (fun C q h' z => by rw [z1, z2]; exact kx C q h' z) (fun v h' z => by
    obtain ⟨r, rfl, p⟩ := z
    rw [z1, z2]
    exact kk r h' p)
theorem g_V1n {index a t ci : Nat} {fs : List Value} {q : vw_C} {cc' : ByteArray} {M' : GM} {a1 : Value} {P : Nat → AH → Prop} (hc : Ct E cc' M' [.ref a, a1] h (pN (fun r h' => P r h')) noX) (hk : gCv cc' M' 1) (hlk : Cond.methodLink own index M'.y ∈ lw_all) (ha : h a = some (t, gO ci fs)) (hcl : gCl[ci]? = some q) (hq : q.1 = M'.y.cls) (hR : M'.rm.frames + 1 ≤ M.rm.frames ∧ 8 + (M'.nL + 11) + M'.rm.locals ≤ M.rm.locals) (hf : k + M'.rm.cells ≤ M.rm.cells ∧ n + M'.rm.slots ≤ M.rm.slots) (hcat : (st.map fun v => v.category).sum ≤ 8) (d : decode cc pc = .ok (.invokevirtual index, 3)) (kk : ∀ (r : Nat) (h' : AH), P r h' → V E cc own M Po Px X h' (k + M'.rm.cells) (n + M'.rm.slots) (pc + 3) ls (.int (nI r) :: st)) : V E cc own M Po Px X h k n pc ls (a1 :: .ref a :: st) := g_callV (av := [a1]) hc hk hlk ha hcl hq hR hf rfl hcat d (fun _ _ _ z => z.elim) (fun v h' z => by
    obtain ⟨r, rfl, p⟩ := z
    exact kk r h' p)
theorem g_V1nx {index a t ci : Nat} {fs : List Value} {q : vw_C} {cc' : ByteArray} {M' : GM} {a1 : Value} {P : Nat → AH → Prop} {Px' : String → Nat → AH → Prop} (hc : Ct E cc' M' [.ref a, a1] h (pN (fun r h' => P r h')) Px') (hk : gCv cc' M' 1) (hlk : Cond.methodLink own index M'.y ∈ lw_all) (ha : h a = some (t, gO ci fs)) (hcl : gCl[ci]? = some q) (hq : q.1 = M'.y.cls) (hR : M'.rm.frames + 1 ≤ M.rm.frames ∧ 8 + (M'.nL + 11) + M'.rm.locals ≤ M.rm.locals) (hf : k + M'.rm.cells ≤ M.rm.cells ∧ n + M'.rm.slots ≤ M.rm.slots) (hcat : (st.map fun v => v.category).sum ≤ 8) (d : decode cc pc = .ok (.invokevirtual index, 3)) (kx : ∀ (C : String) (q : Nat) (h' : AH), Px' C q h' → VX E cc own M Po Px X h' (k + M'.rm.cells) (n + M'.rm.slots) pc ls C q) (kk : ∀ (r : Nat) (h' : AH), P r h' → V E cc own M Po Px X h' (k + M'.rm.cells) (n + M'.rm.slots) (pc + 3) ls (.int (nI r) :: st)) : V E cc own M Po Px X h k n pc ls (a1 :: .ref a :: st) := g_callV (av := [a1]) hc hk hlk ha hcl hq hR hf rfl hcat d kx (fun v h' z => by
    obtain ⟨r, rfl, p⟩ := z
    exact kk r h' p)
theorem g_V1l0 {index a t ci : Nat} {fs : List Value} {q : vw_C} {cc' : ByteArray} {M' : GM} {a1 : Value} {P : Int64 → AH → Prop} (hc : Ct E cc' M' [.ref a, a1] h (pL (fun r h' => P r h')) noX) (hk : gCv cc' M' 1) (hlk : Cond.methodLink own index M'.y ∈ lw_all) (ha : h a = some (t, gO ci fs)) (hcl : gCl[ci]? = some q) (hq : q.1 = M'.y.cls) (hR : M'.rm.frames + 1 ≤ M.rm.frames ∧ 8 + (M'.nL + 11) + M'.rm.locals ≤ M.rm.locals) (hz : M'.rm.cells = 0 ∧ M'.rm.slots = 0) (hf : k ≤ M.rm.cells ∧ n ≤ M.rm.slots) (hcat : (st.map fun v => v.category).sum ≤ 8) (d : decode cc pc = .ok (.invokevirtual index, 3)) (kk : ∀ (r : Int64) (h' : AH), P r h' → V E cc own M Po Px X h' k n (pc + 3) ls (.long r :: st)) : V E cc own M Po Px X h k n pc ls (a1 :: .ref a :: st) := by
  obtain ⟨z1, z2⟩ := hz
  refine g_callV (av := [a1]) hc hk hlk ha hcl hq hR (by rw [z1, z2]; exact hf) rfl hcat d (fun _ _ _ z => z.elim) (fun v h' z => by
    obtain ⟨r, rfl, p⟩ := z
    rw [z1, z2]
    exact kk r h' p)
theorem g_V1l0x {index a t ci : Nat} {fs : List Value} {q : vw_C} {cc' : ByteArray} {M' : GM} {a1 : Value} {P : Int64 → AH → Prop} {Px' : String → Nat → AH → Prop} (hc : Ct E cc' M' [.ref a, a1] h (pL (fun r h' => P r h')) Px') (hk : gCv cc' M' 1) (hlk : Cond.methodLink own index M'.y ∈ lw_all) (ha : h a = some (t, gO ci fs)) (hcl : gCl[ci]? = some q) (hq : q.1 = M'.y.cls) (hR : M'.rm.frames + 1 ≤ M.rm.frames ∧ 8 + (M'.nL + 11) + M'.rm.locals ≤ M.rm.locals) (hz : M'.rm.cells = 0 ∧ M'.rm.slots = 0) (hf : k ≤ M.rm.cells ∧ n ≤ M.rm.slots) (hcat : (st.map fun v => v.category).sum ≤ 8) (d : decode cc pc = .ok (.invokevirtual index, 3)) (kx : ∀ (C : String) (q : Nat) (h' : AH), Px' C q h' → VX E cc own M Po Px X h' k n pc ls C q) (kk : ∀ (r : Int64) (h' : AH), P r h' → V E cc own M Po Px X h' k n (pc + 3) ls (.long r :: st)) : V E cc own M Po Px X h k n pc ls (a1 :: .ref a :: st) := by
  obtain ⟨z1, z2⟩ := hz
  refine g_callV (av := [a1]) hc hk hlk ha hcl hq hR (by rw [z1, z2]; exact hf) rfl hcat d (fun C q h' z => by rw [z1, z2]; exact kx C q h' z) (fun v h' z => by
    obtain ⟨r, rfl, p⟩ := z
    rw [z1, z2]
    exact kk r h' p)
theorem g_V1l {index a t ci : Nat} {fs : List Value} {q : vw_C} {cc' : ByteArray} {M' : GM} {a1 : Value} {P : Int64 → AH → Prop} (hc : Ct E cc' M' [.ref a, a1] h (pL (fun r h' => P r h')) noX) (hk : gCv cc' M' 1) (hlk : Cond.methodLink own index M'.y ∈ lw_all) (ha : h a = some (t, gO ci fs)) (hcl : gCl[ci]? = some q) (hq : q.1 = M'.y.cls) (hR : M'.rm.frames + 1 ≤ M.rm.frames ∧ 8 + (M'.nL + 11) + M'.rm.locals ≤ M.rm.locals) (hf : k + M'.rm.cells ≤ M.rm.cells ∧ n + M'.rm.slots ≤ M.rm.slots) (hcat : (st.map fun v => v.category).sum ≤ 8) (d : decode cc pc = .ok (.invokevirtual index, 3)) (kk : ∀ (r : Int64) (h' : AH), P r h' → V E cc own M Po Px X h' (k + M'.rm.cells) (n + M'.rm.slots) (pc + 3) ls (.long r :: st)) : V E cc own M Po Px X h k n pc ls (a1 :: .ref a :: st) := g_callV (av := [a1]) hc hk hlk ha hcl hq hR hf rfl hcat d (fun _ _ _ z => z.elim) (fun v h' z => by
    obtain ⟨r, rfl, p⟩ := z
    exact kk r h' p)
theorem g_V1lx {index a t ci : Nat} {fs : List Value} {q : vw_C} {cc' : ByteArray} {M' : GM} {a1 : Value} {P : Int64 → AH → Prop} {Px' : String → Nat → AH → Prop} (hc : Ct E cc' M' [.ref a, a1] h (pL (fun r h' => P r h')) Px') (hk : gCv cc' M' 1) (hlk : Cond.methodLink own index M'.y ∈ lw_all) (ha : h a = some (t, gO ci fs)) (hcl : gCl[ci]? = some q) (hq : q.1 = M'.y.cls) (hR : M'.rm.frames + 1 ≤ M.rm.frames ∧ 8 + (M'.nL + 11) + M'.rm.locals ≤ M.rm.locals) (hf : k + M'.rm.cells ≤ M.rm.cells ∧ n + M'.rm.slots ≤ M.rm.slots) (hcat : (st.map fun v => v.category).sum ≤ 8) (d : decode cc pc = .ok (.invokevirtual index, 3)) (kx : ∀ (C : String) (q : Nat) (h' : AH), Px' C q h' → VX E cc own M Po Px X h' (k + M'.rm.cells) (n + M'.rm.slots) pc ls C q) (kk : ∀ (r : Int64) (h' : AH), P r h' → V E cc own M Po Px X h' (k + M'.rm.cells) (n + M'.rm.slots) (pc + 3) ls (.long r :: st)) : V E cc own M Po Px X h k n pc ls (a1 :: .ref a :: st) := g_callV (av := [a1]) hc hk hlk ha hcl hq hR hf rfl hcat d kx (fun v h' z => by
    obtain ⟨r, rfl, p⟩ := z
    exact kk r h' p)
theorem g_V1r0 {index a t ci : Nat} {fs : List Value} {q : vw_C} {cc' : ByteArray} {M' : GM} {a1 : Value} {P : Nat → AH → Prop} (hc : Ct E cc' M' [.ref a, a1] h (pR (fun r h' => P r h')) noX) (hk : gCv cc' M' 1) (hlk : Cond.methodLink own index M'.y ∈ lw_all) (ha : h a = some (t, gO ci fs)) (hcl : gCl[ci]? = some q) (hq : q.1 = M'.y.cls) (hR : M'.rm.frames + 1 ≤ M.rm.frames ∧ 8 + (M'.nL + 11) + M'.rm.locals ≤ M.rm.locals) (hz : M'.rm.cells = 0 ∧ M'.rm.slots = 0) (hf : k ≤ M.rm.cells ∧ n ≤ M.rm.slots) (hcat : (st.map fun v => v.category).sum ≤ 8) (d : decode cc pc = .ok (.invokevirtual index, 3)) (kk : ∀ (r : Nat) (h' : AH), P r h' → V E cc own M Po Px X h' k n (pc + 3) ls (.ref r :: st)) : V E cc own M Po Px X h k n pc ls (a1 :: .ref a :: st) := by
  obtain ⟨z1, z2⟩ := hz
  refine g_callV (av := [a1]) hc hk hlk ha hcl hq hR (by rw [z1, z2]; exact hf) rfl hcat d (fun _ _ _ z => z.elim) (fun v h' z => by
    obtain ⟨r, rfl, p⟩ := z
    rw [z1, z2]
    exact kk r h' p)
theorem g_V1r0x {index a t ci : Nat} {fs : List Value} {q : vw_C} {cc' : ByteArray} {M' : GM} {a1 : Value} {P : Nat → AH → Prop} {Px' : String → Nat → AH → Prop} (hc : Ct E cc' M' [.ref a, a1] h (pR (fun r h' => P r h')) Px') (hk : gCv cc' M' 1) (hlk : Cond.methodLink own index M'.y ∈ lw_all) (ha : h a = some (t, gO ci fs)) (hcl : gCl[ci]? = some q) (hq : q.1 = M'.y.cls) (hR : M'.rm.frames + 1 ≤ M.rm.frames ∧ 8 + (M'.nL + 11) + M'.rm.locals ≤ M.rm.locals) (hz : M'.rm.cells = 0 ∧ M'.rm.slots = 0) (hf : k ≤ M.rm.cells ∧ n ≤ M.rm.slots) (hcat : (st.map fun v => v.category).sum ≤ 8) (d : decode cc pc = .ok (.invokevirtual index, 3)) (kx : ∀ (C : String) (q : Nat) (h' : AH), Px' C q h' → VX E cc own M Po Px X h' k n pc ls C q) (kk : ∀ (r : Nat) (h' : AH), P r h' → V E cc own M Po Px X h' k n (pc + 3) ls (.ref r :: st)) : V E cc own M Po Px X h k n pc ls (a1 :: .ref a :: st) := by
  obtain ⟨z1, z2⟩ := hz
  refine g_callV (av := [a1]) hc hk hlk ha hcl hq hR (by rw [z1, z2]; exact hf) rfl hcat d (fun C q h' z => by rw [z1, z2]; exact kx C q h' z) (fun v h' z => by
    obtain ⟨r, rfl, p⟩ := z
    rw [z1, z2]
    exact kk r h' p)
theorem g_V1r {index a t ci : Nat} {fs : List Value} {q : vw_C} {cc' : ByteArray} {M' : GM} {a1 : Value} {P : Nat → AH → Prop} (hc : Ct E cc' M' [.ref a, a1] h (pR (fun r h' => P r h')) noX) (hk : gCv cc' M' 1) (hlk : Cond.methodLink own index M'.y ∈ lw_all) (ha : h a = some (t, gO ci fs)) (hcl : gCl[ci]? = some q) (hq : q.1 = M'.y.cls) (hR : M'.rm.frames + 1 ≤ M.rm.frames ∧ 8 + (M'.nL + 11) + M'.rm.locals ≤ M.rm.locals) (hf : k + M'.rm.cells ≤ M.rm.cells ∧ n + M'.rm.slots ≤ M.rm.slots) (hcat : (st.map fun v => v.category).sum ≤ 8) (d : decode cc pc = .ok (.invokevirtual index, 3)) (kk : ∀ (r : Nat) (h' : AH), P r h' → V E cc own M Po Px X h' (k + M'.rm.cells) (n + M'.rm.slots) (pc + 3) ls (.ref r :: st)) : V E cc own M Po Px X h k n pc ls (a1 :: .ref a :: st) := g_callV (av := [a1]) hc hk hlk ha hcl hq hR hf rfl hcat d (fun _ _ _ z => z.elim) (fun v h' z => by
    obtain ⟨r, rfl, p⟩ := z
    exact kk r h' p)
theorem g_V1rx {index a t ci : Nat} {fs : List Value} {q : vw_C} {cc' : ByteArray} {M' : GM} {a1 : Value} {P : Nat → AH → Prop} {Px' : String → Nat → AH → Prop} (hc : Ct E cc' M' [.ref a, a1] h (pR (fun r h' => P r h')) Px') (hk : gCv cc' M' 1) (hlk : Cond.methodLink own index M'.y ∈ lw_all) (ha : h a = some (t, gO ci fs)) (hcl : gCl[ci]? = some q) (hq : q.1 = M'.y.cls) (hR : M'.rm.frames + 1 ≤ M.rm.frames ∧ 8 + (M'.nL + 11) + M'.rm.locals ≤ M.rm.locals) (hf : k + M'.rm.cells ≤ M.rm.cells ∧ n + M'.rm.slots ≤ M.rm.slots) (hcat : (st.map fun v => v.category).sum ≤ 8) (d : decode cc pc = .ok (.invokevirtual index, 3)) (kx : ∀ (C : String) (q : Nat) (h' : AH), Px' C q h' → VX E cc own M Po Px X h' (k + M'.rm.cells) (n + M'.rm.slots) pc ls C q) (kk : ∀ (r : Nat) (h' : AH), P r h' → V E cc own M Po Px X h' (k + M'.rm.cells) (n + M'.rm.slots) (pc + 3) ls (.ref r :: st)) : V E cc own M Po Px X h k n pc ls (a1 :: .ref a :: st) := g_callV (av := [a1]) hc hk hlk ha hcl hq hR hf rfl hcat d kx (fun v h' z => by
    obtain ⟨r, rfl, p⟩ := z
    exact kk r h' p)
theorem g_V1q0 {index a t ci : Nat} {fs : List Value} {q : vw_C} {cc' : ByteArray} {M' : GM} {a1 : Value} {P : Option Nat → AH → Prop} (hc : Ct E cc' M' [.ref a, a1] h (pQ (fun r h' => P r h')) noX) (hk : gCv cc' M' 1) (hlk : Cond.methodLink own index M'.y ∈ lw_all) (ha : h a = some (t, gO ci fs)) (hcl : gCl[ci]? = some q) (hq : q.1 = M'.y.cls) (hR : M'.rm.frames + 1 ≤ M.rm.frames ∧ 8 + (M'.nL + 11) + M'.rm.locals ≤ M.rm.locals) (hz : M'.rm.cells = 0 ∧ M'.rm.slots = 0) (hf : k ≤ M.rm.cells ∧ n ≤ M.rm.slots) (hcat : (st.map fun v => v.category).sum ≤ 8) (d : decode cc pc = .ok (.invokevirtual index, 3)) (kk : ∀ (r : Option Nat) (h' : AH), P r h' → V E cc own M Po Px X h' k n (pc + 3) ls (va_rf r :: st)) : V E cc own M Po Px X h k n pc ls (a1 :: .ref a :: st) := by
  obtain ⟨z1, z2⟩ := hz
  refine g_callV (av := [a1]) hc hk hlk ha hcl hq hR (by rw [z1, z2]; exact hf) rfl hcat d (fun _ _ _ z => z.elim) (fun v h' z => by
    obtain ⟨r, rfl, p⟩ := z
    rw [z1, z2]
    exact kk r h' p)
theorem g_V1q0x {index a t ci : Nat} {fs : List Value} {q : vw_C} {cc' : ByteArray} {M' : GM} {a1 : Value} {P : Option Nat → AH → Prop} {Px' : String → Nat → AH → Prop} (hc : Ct E cc' M' [.ref a, a1] h (pQ (fun r h' => P r h')) Px') (hk : gCv cc' M' 1) (hlk : Cond.methodLink own index M'.y ∈ lw_all) (ha : h a = some (t, gO ci fs)) (hcl : gCl[ci]? = some q) (hq : q.1 = M'.y.cls) (hR : M'.rm.frames + 1 ≤ M.rm.frames ∧ 8 + (M'.nL + 11) + M'.rm.locals ≤ M.rm.locals) (hz : M'.rm.cells = 0 ∧ M'.rm.slots = 0) (hf : k ≤ M.rm.cells ∧ n ≤ M.rm.slots) (hcat : (st.map fun v => v.category).sum ≤ 8) (d : decode cc pc = .ok (.invokevirtual index, 3)) (kx : ∀ (C : String) (q : Nat) (h' : AH), Px' C q h' → VX E cc own M Po Px X h' k n pc ls C q) (kk : ∀ (r : Option Nat) (h' : AH), P r h' → V E cc own M Po Px X h' k n (pc + 3) ls (va_rf r :: st)) : V E cc own M Po Px X h k n pc ls (a1 :: .ref a :: st) := by
  obtain ⟨z1, z2⟩ := hz
  refine g_callV (av := [a1]) hc hk hlk ha hcl hq hR (by rw [z1, z2]; exact hf) rfl hcat d (fun C q h' z => by rw [z1, z2]; exact kx C q h' z) (fun v h' z => by
    obtain ⟨r, rfl, p⟩ := z
    rw [z1, z2]
    exact kk r h' p)
theorem g_V1q {index a t ci : Nat} {fs : List Value} {q : vw_C} {cc' : ByteArray} {M' : GM} {a1 : Value} {P : Option Nat → AH → Prop} (hc : Ct E cc' M' [.ref a, a1] h (pQ (fun r h' => P r h')) noX) (hk : gCv cc' M' 1) (hlk : Cond.methodLink own index M'.y ∈ lw_all) (ha : h a = some (t, gO ci fs)) (hcl : gCl[ci]? = some q) (hq : q.1 = M'.y.cls) (hR : M'.rm.frames + 1 ≤ M.rm.frames ∧ 8 + (M'.nL + 11) + M'.rm.locals ≤ M.rm.locals) (hf : k + M'.rm.cells ≤ M.rm.cells ∧ n + M'.rm.slots ≤ M.rm.slots) (hcat : (st.map fun v => v.category).sum ≤ 8) (d : decode cc pc = .ok (.invokevirtual index, 3)) (kk : ∀ (r : Option Nat) (h' : AH), P r h' → V E cc own M Po Px X h' (k + M'.rm.cells) (n + M'.rm.slots) (pc + 3) ls (va_rf r :: st)) : V E cc own M Po Px X h k n pc ls (a1 :: .ref a :: st) := g_callV (av := [a1]) hc hk hlk ha hcl hq hR hf rfl hcat d (fun _ _ _ z => z.elim) (fun v h' z => by
    obtain ⟨r, rfl, p⟩ := z
    exact kk r h' p)
theorem g_V1qx {index a t ci : Nat} {fs : List Value} {q : vw_C} {cc' : ByteArray} {M' : GM} {a1 : Value} {P : Option Nat → AH → Prop} {Px' : String → Nat → AH → Prop} (hc : Ct E cc' M' [.ref a, a1] h (pQ (fun r h' => P r h')) Px') (hk : gCv cc' M' 1) (hlk : Cond.methodLink own index M'.y ∈ lw_all) (ha : h a = some (t, gO ci fs)) (hcl : gCl[ci]? = some q) (hq : q.1 = M'.y.cls) (hR : M'.rm.frames + 1 ≤ M.rm.frames ∧ 8 + (M'.nL + 11) + M'.rm.locals ≤ M.rm.locals) (hf : k + M'.rm.cells ≤ M.rm.cells ∧ n + M'.rm.slots ≤ M.rm.slots) (hcat : (st.map fun v => v.category).sum ≤ 8) (d : decode cc pc = .ok (.invokevirtual index, 3)) (kx : ∀ (C : String) (q : Nat) (h' : AH), Px' C q h' → VX E cc own M Po Px X h' (k + M'.rm.cells) (n + M'.rm.slots) pc ls C q) (kk : ∀ (r : Option Nat) (h' : AH), P r h' → V E cc own M Po Px X h' (k + M'.rm.cells) (n + M'.rm.slots) (pc + 3) ls (va_rf r :: st)) : V E cc own M Po Px X h k n pc ls (a1 :: .ref a :: st) := g_callV (av := [a1]) hc hk hlk ha hcl hq hR hf rfl hcat d kx (fun v h' z => by
    obtain ⟨r, rfl, p⟩ := z
    exact kk r h' p)
theorem g_V1v0 {index a t ci : Nat} {fs : List Value} {q : vw_C} {cc' : ByteArray} {M' : GM} {a1 : Value} {P : AH → Prop} (hc : Ct E cc' M' [.ref a, a1] h (pV (fun h' => P h')) noX) (hk : gCv cc' M' 1) (hlk : Cond.methodLink own index M'.y ∈ lw_all) (ha : h a = some (t, gO ci fs)) (hcl : gCl[ci]? = some q) (hq : q.1 = M'.y.cls) (hR : M'.rm.frames + 1 ≤ M.rm.frames ∧ 8 + (M'.nL + 11) + M'.rm.locals ≤ M.rm.locals) (hz : M'.rm.cells = 0 ∧ M'.rm.slots = 0) (hf : k ≤ M.rm.cells ∧ n ≤ M.rm.slots) (hcat : (st.map fun v => v.category).sum ≤ 8) (d : decode cc pc = .ok (.invokevirtual index, 3)) (kk : ∀ (h' : AH), P h' → V E cc own M Po Px X h' k n (pc + 3) ls st) : V E cc own M Po Px X h k n pc ls (a1 :: .ref a :: st) := by
  obtain ⟨z1, z2⟩ := hz
  refine g_callV (av := [a1]) hc hk hlk ha hcl hq hR (by rw [z1, z2]; exact hf) rfl hcat d (fun _ _ _ z => z.elim) (fun v h' z => by
    obtain ⟨rfl, p⟩ := z
    rw [z1, z2]
    exact kk h' p)
theorem g_V1v0x {index a t ci : Nat} {fs : List Value} {q : vw_C} {cc' : ByteArray} {M' : GM} {a1 : Value} {P : AH → Prop} {Px' : String → Nat → AH → Prop} (hc : Ct E cc' M' [.ref a, a1] h (pV (fun h' => P h')) Px') (hk : gCv cc' M' 1) (hlk : Cond.methodLink own index M'.y ∈ lw_all) (ha : h a = some (t, gO ci fs)) (hcl : gCl[ci]? = some q) (hq : q.1 = M'.y.cls) (hR : M'.rm.frames + 1 ≤ M.rm.frames ∧ 8 + (M'.nL + 11) + M'.rm.locals ≤ M.rm.locals) (hz : M'.rm.cells = 0 ∧ M'.rm.slots = 0) (hf : k ≤ M.rm.cells ∧ n ≤ M.rm.slots) (hcat : (st.map fun v => v.category).sum ≤ 8) (d : decode cc pc = .ok (.invokevirtual index, 3)) (kx : ∀ (C : String) (q : Nat) (h' : AH), Px' C q h' → VX E cc own M Po Px X h' k n pc ls C q) (kk : ∀ (h' : AH), P h' → V E cc own M Po Px X h' k n (pc + 3) ls st) : V E cc own M Po Px X h k n pc ls (a1 :: .ref a :: st) := by
  obtain ⟨z1, z2⟩ := hz
  refine g_callV (av := [a1]) hc hk hlk ha hcl hq hR (by rw [z1, z2]; exact hf) rfl hcat d (fun C q h' z => by rw [z1, z2]; exact kx C q h' z) (fun v h' z => by
    obtain ⟨rfl, p⟩ := z
    rw [z1, z2]
    exact kk h' p)
theorem g_V1v {index a t ci : Nat} {fs : List Value} {q : vw_C} {cc' : ByteArray} {M' : GM} {a1 : Value} {P : AH → Prop} (hc : Ct E cc' M' [.ref a, a1] h (pV (fun h' => P h')) noX) (hk : gCv cc' M' 1) (hlk : Cond.methodLink own index M'.y ∈ lw_all) (ha : h a = some (t, gO ci fs)) (hcl : gCl[ci]? = some q) (hq : q.1 = M'.y.cls) (hR : M'.rm.frames + 1 ≤ M.rm.frames ∧ 8 + (M'.nL + 11) + M'.rm.locals ≤ M.rm.locals) (hf : k + M'.rm.cells ≤ M.rm.cells ∧ n + M'.rm.slots ≤ M.rm.slots) (hcat : (st.map fun v => v.category).sum ≤ 8) (d : decode cc pc = .ok (.invokevirtual index, 3)) (kk : ∀ (h' : AH), P h' → V E cc own M Po Px X h' (k + M'.rm.cells) (n + M'.rm.slots) (pc + 3) ls st) : V E cc own M Po Px X h k n pc ls (a1 :: .ref a :: st) := g_callV (av := [a1]) hc hk hlk ha hcl hq hR hf rfl hcat d (fun _ _ _ z => z.elim) (fun v h' z => by
    obtain ⟨rfl, p⟩ := z
    exact kk h' p)
theorem g_V1vx {index a t ci : Nat} {fs : List Value} {q : vw_C} {cc' : ByteArray} {M' : GM} {a1 : Value} {P : AH → Prop} {Px' : String → Nat → AH → Prop} (hc : Ct E cc' M' [.ref a, a1] h (pV (fun h' => P h')) Px') (hk : gCv cc' M' 1) (hlk : Cond.methodLink own index M'.y ∈ lw_all) (ha : h a = some (t, gO ci fs)) (hcl : gCl[ci]? = some q) (hq : q.1 = M'.y.cls) (hR : M'.rm.frames + 1 ≤ M.rm.frames ∧ 8 + (M'.nL + 11) + M'.rm.locals ≤ M.rm.locals) (hf : k + M'.rm.cells ≤ M.rm.cells ∧ n + M'.rm.slots ≤ M.rm.slots) (hcat : (st.map fun v => v.category).sum ≤ 8) (d : decode cc pc = .ok (.invokevirtual index, 3)) (kx : ∀ (C : String) (q : Nat) (h' : AH), Px' C q h' → VX E cc own M Po Px X h' (k + M'.rm.cells) (n + M'.rm.slots) pc ls C q) (kk : ∀ (h' : AH), P h' → V E cc own M Po Px X h' (k + M'.rm.cells) (n + M'.rm.slots) (pc + 3) ls st) : V E cc own M Po Px X h k n pc ls (a1 :: .ref a :: st) := g_callV (av := [a1]) hc hk hlk ha hcl hq hR hf rfl hcat d kx (fun v h' z => by
    obtain ⟨rfl, p⟩ := z
    exact kk h' p)
theorem g_V2i0 {index a t ci : Nat} {fs : List Value} {q : vw_C} {cc' : ByteArray} {M' : GM} {a1 a2 : Value} {P : Int32 → AH → Prop} (hc : Ct E cc' M' [.ref a, a1, a2] h (pI (fun r h' => P r h')) noX) (hk : gCv cc' M' 2) (hlk : Cond.methodLink own index M'.y ∈ lw_all) (ha : h a = some (t, gO ci fs)) (hcl : gCl[ci]? = some q) (hq : q.1 = M'.y.cls) (hR : M'.rm.frames + 1 ≤ M.rm.frames ∧ 8 + (M'.nL + 11) + M'.rm.locals ≤ M.rm.locals) (hz : M'.rm.cells = 0 ∧ M'.rm.slots = 0) (hf : k ≤ M.rm.cells ∧ n ≤ M.rm.slots) (hcat : (st.map fun v => v.category).sum ≤ 8) (d : decode cc pc = .ok (.invokevirtual index, 3)) (kk : ∀ (r : Int32) (h' : AH), P r h' → V E cc own M Po Px X h' k n (pc + 3) ls (.int r :: st)) : V E cc own M Po Px X h k n pc ls (a2 :: a1 :: .ref a :: st) := by
  obtain ⟨z1, z2⟩ := hz
  refine g_callV (av := [a1, a2]) hc hk hlk ha hcl hq hR (by rw [z1, z2]; exact hf) rfl hcat d (fun _ _ _ z => z.elim) (fun v h' z => by
    obtain ⟨r, rfl, p⟩ := z
    rw [z1, z2]
    exact kk r h' p)
theorem g_V2i0x {index a t ci : Nat} {fs : List Value} {q : vw_C} {cc' : ByteArray} {M' : GM} {a1 a2 : Value} {P : Int32 → AH → Prop} {Px' : String → Nat → AH → Prop} (hc : Ct E cc' M' [.ref a, a1, a2] h (pI (fun r h' => P r h')) Px') (hk : gCv cc' M' 2) (hlk : Cond.methodLink own index M'.y ∈ lw_all) (ha : h a = some (t, gO ci fs)) (hcl : gCl[ci]? = some q) (hq : q.1 = M'.y.cls) (hR : M'.rm.frames + 1 ≤ M.rm.frames ∧ 8 + (M'.nL + 11) + M'.rm.locals ≤ M.rm.locals) (hz : M'.rm.cells = 0 ∧ M'.rm.slots = 0) (hf : k ≤ M.rm.cells ∧ n ≤ M.rm.slots) (hcat : (st.map fun v => v.category).sum ≤ 8) (d : decode cc pc = .ok (.invokevirtual index, 3)) (kx : ∀ (C : String) (q : Nat) (h' : AH), Px' C q h' → VX E cc own M Po Px X h' k n pc ls C q) (kk : ∀ (r : Int32) (h' : AH), P r h' → V E cc own M Po Px X h' k n (pc + 3) ls (.int r :: st)) : V E cc own M Po Px X h k n pc ls (a2 :: a1 :: .ref a :: st) := by
  obtain ⟨z1, z2⟩ := hz
  refine g_callV (av := [a1, a2]) hc hk hlk ha hcl hq hR (by rw [z1, z2]; exact hf) rfl hcat d (fun C q h' z => by rw [z1, z2]; exact kx C q h' z) (fun v h' z => by
    obtain ⟨r, rfl, p⟩ := z
    rw [z1, z2]
    exact kk r h' p)
theorem g_V2i {index a t ci : Nat} {fs : List Value} {q : vw_C} {cc' : ByteArray} {M' : GM} {a1 a2 : Value} {P : Int32 → AH → Prop} (hc : Ct E cc' M' [.ref a, a1, a2] h (pI (fun r h' => P r h')) noX) (hk : gCv cc' M' 2) (hlk : Cond.methodLink own index M'.y ∈ lw_all) (ha : h a = some (t, gO ci fs)) (hcl : gCl[ci]? = some q) (hq : q.1 = M'.y.cls) (hR : M'.rm.frames + 1 ≤ M.rm.frames ∧ 8 + (M'.nL + 11) + M'.rm.locals ≤ M.rm.locals) (hf : k + M'.rm.cells ≤ M.rm.cells ∧ n + M'.rm.slots ≤ M.rm.slots) (hcat : (st.map fun v => v.category).sum ≤ 8) (d : decode cc pc = .ok (.invokevirtual index, 3)) (kk : ∀ (r : Int32) (h' : AH), P r h' → V E cc own M Po Px X h' (k + M'.rm.cells) (n + M'.rm.slots) (pc + 3) ls (.int r :: st)) : V E cc own M Po Px X h k n pc ls (a2 :: a1 :: .ref a :: st) := g_callV (av := [a1, a2]) hc hk hlk ha hcl hq hR hf rfl hcat d (fun _ _ _ z => z.elim) (fun v h' z => by
    obtain ⟨r, rfl, p⟩ := z
    exact kk r h' p)
theorem g_V2ix {index a t ci : Nat} {fs : List Value} {q : vw_C} {cc' : ByteArray} {M' : GM} {a1 a2 : Value} {P : Int32 → AH → Prop} {Px' : String → Nat → AH → Prop} (hc : Ct E cc' M' [.ref a, a1, a2] h (pI (fun r h' => P r h')) Px') (hk : gCv cc' M' 2) (hlk : Cond.methodLink own index M'.y ∈ lw_all) (ha : h a = some (t, gO ci fs)) (hcl : gCl[ci]? = some q) (hq : q.1 = M'.y.cls) (hR : M'.rm.frames + 1 ≤ M.rm.frames ∧ 8 + (M'.nL + 11) + M'.rm.locals ≤ M.rm.locals) (hf : k + M'.rm.cells ≤ M.rm.cells ∧ n + M'.rm.slots ≤ M.rm.slots) (hcat : (st.map fun v => v.category).sum ≤ 8) (d : decode cc pc = .ok (.invokevirtual index, 3)) (kx : ∀ (C : String) (q : Nat) (h' : AH), Px' C q h' → VX E cc own M Po Px X h' (k + M'.rm.cells) (n + M'.rm.slots) pc ls C q) (kk : ∀ (r : Int32) (h' : AH), P r h' → V E cc own M Po Px X h' (k + M'.rm.cells) (n + M'.rm.slots) (pc + 3) ls (.int r :: st)) : V E cc own M Po Px X h k n pc ls (a2 :: a1 :: .ref a :: st) := g_callV (av := [a1, a2]) hc hk hlk ha hcl hq hR hf rfl hcat d kx (fun v h' z => by
    obtain ⟨r, rfl, p⟩ := z
    exact kk r h' p)
theorem g_V2n0 {index a t ci : Nat} {fs : List Value} {q : vw_C} {cc' : ByteArray} {M' : GM} {a1 a2 : Value} {P : Nat → AH → Prop} (hc : Ct E cc' M' [.ref a, a1, a2] h (pN (fun r h' => P r h')) noX) (hk : gCv cc' M' 2) (hlk : Cond.methodLink own index M'.y ∈ lw_all) (ha : h a = some (t, gO ci fs)) (hcl : gCl[ci]? = some q) (hq : q.1 = M'.y.cls) (hR : M'.rm.frames + 1 ≤ M.rm.frames ∧ 8 + (M'.nL + 11) + M'.rm.locals ≤ M.rm.locals) (hz : M'.rm.cells = 0 ∧ M'.rm.slots = 0) (hf : k ≤ M.rm.cells ∧ n ≤ M.rm.slots) (hcat : (st.map fun v => v.category).sum ≤ 8) (d : decode cc pc = .ok (.invokevirtual index, 3)) (kk : ∀ (r : Nat) (h' : AH), P r h' → V E cc own M Po Px X h' k n (pc + 3) ls (.int (nI r) :: st)) : V E cc own M Po Px X h k n pc ls (a2 :: a1 :: .ref a :: st) := by
  obtain ⟨z1, z2⟩ := hz
  refine g_callV (av := [a1, a2]) hc hk hlk ha hcl hq hR (by rw [z1, z2]; exact hf) rfl hcat d (fun _ _ _ z => z.elim) (fun v h' z => by
    obtain ⟨r, rfl, p⟩ := z
    rw [z1, z2]
    exact kk r h' p)
theorem g_V2n0x {index a t ci : Nat} {fs : List Value} {q : vw_C} {cc' : ByteArray} {M' : GM} {a1 a2 : Value} {P : Nat → AH → Prop} {Px' : String → Nat → AH → Prop} (hc : Ct E cc' M' [.ref a, a1, a2] h (pN (fun r h' => P r h')) Px') (hk : gCv cc' M' 2) (hlk : Cond.methodLink own index M'.y ∈ lw_all) (ha : h a = some (t, gO ci fs)) (hcl : gCl[ci]? = some q) (hq : q.1 = M'.y.cls) (hR : M'.rm.frames + 1 ≤ M.rm.frames ∧ 8 + (M'.nL + 11) + M'.rm.locals ≤ M.rm.locals) (hz : M'.rm.cells = 0 ∧ M'.rm.slots = 0) (hf : k ≤ M.rm.cells ∧ n ≤ M.rm.slots) (hcat : (st.map fun v => v.category).sum ≤ 8) (d : decode cc pc = .ok (.invokevirtual index, 3)) (kx : ∀ (C : String) (q : Nat) (h' : AH), Px' C q h' → VX E cc own M Po Px X h' k n pc ls C q) (kk : ∀ (r : Nat) (h' : AH), P r h' → V E cc own M Po Px X h' k n (pc + 3) ls (.int (nI r) :: st)) : V E cc own M Po Px X h k n pc ls (a2 :: a1 :: .ref a :: st) := by
  obtain ⟨z1, z2⟩ := hz
  refine g_callV (av := [a1, a2]) hc hk hlk ha hcl hq hR (by rw [z1, z2]; exact hf) rfl hcat d (fun C q h' z => by rw [z1, z2]; exact kx C q h' z) (fun v h' z => by
    obtain ⟨r, rfl, p⟩ := z
    rw [z1, z2]
    exact kk r h' p)
theorem g_V2n {index a t ci : Nat} {fs : List Value} {q : vw_C} {cc' : ByteArray} {M' : GM} {a1 a2 : Value} {P : Nat → AH → Prop} (hc : Ct E cc' M' [.ref a, a1, a2] h (pN (fun r h' => P r h')) noX) (hk : gCv cc' M' 2) (hlk : Cond.methodLink own index M'.y ∈ lw_all) (ha : h a = some (t, gO ci fs)) (hcl : gCl[ci]? = some q) (hq : q.1 = M'.y.cls) (hR : M'.rm.frames + 1 ≤ M.rm.frames ∧ 8 + (M'.nL + 11) + M'.rm.locals ≤ M.rm.locals) (hf : k + M'.rm.cells ≤ M.rm.cells ∧ n + M'.rm.slots ≤ M.rm.slots) (hcat : (st.map fun v => v.category).sum ≤ 8) (d : decode cc pc = .ok (.invokevirtual index, 3)) (kk : ∀ (r : Nat) (h' : AH), P r h' → V E cc own M Po Px X h' (k + M'.rm.cells) (n + M'.rm.slots) (pc + 3) ls (.int (nI r) :: st)) : V E cc own M Po Px X h k n pc ls (a2 :: a1 :: .ref a :: st) := g_callV (av := [a1, a2]) hc hk hlk ha hcl hq hR hf rfl hcat d (fun _ _ _ z => z.elim) (fun v h' z => by
    obtain ⟨r, rfl, p⟩ := z
    exact kk r h' p)
theorem g_V2nx {index a t ci : Nat} {fs : List Value} {q : vw_C} {cc' : ByteArray} {M' : GM} {a1 a2 : Value} {P : Nat → AH → Prop} {Px' : String → Nat → AH → Prop} (hc : Ct E cc' M' [.ref a, a1, a2] h (pN (fun r h' => P r h')) Px') (hk : gCv cc' M' 2) (hlk : Cond.methodLink own index M'.y ∈ lw_all) (ha : h a = some (t, gO ci fs)) (hcl : gCl[ci]? = some q) (hq : q.1 = M'.y.cls) (hR : M'.rm.frames + 1 ≤ M.rm.frames ∧ 8 + (M'.nL + 11) + M'.rm.locals ≤ M.rm.locals) (hf : k + M'.rm.cells ≤ M.rm.cells ∧ n + M'.rm.slots ≤ M.rm.slots) (hcat : (st.map fun v => v.category).sum ≤ 8) (d : decode cc pc = .ok (.invokevirtual index, 3)) (kx : ∀ (C : String) (q : Nat) (h' : AH), Px' C q h' → VX E cc own M Po Px X h' (k + M'.rm.cells) (n + M'.rm.slots) pc ls C q) (kk : ∀ (r : Nat) (h' : AH), P r h' → V E cc own M Po Px X h' (k + M'.rm.cells) (n + M'.rm.slots) (pc + 3) ls (.int (nI r) :: st)) : V E cc own M Po Px X h k n pc ls (a2 :: a1 :: .ref a :: st) := g_callV (av := [a1, a2]) hc hk hlk ha hcl hq hR hf rfl hcat d kx (fun v h' z => by
    obtain ⟨r, rfl, p⟩ := z
    exact kk r h' p)
theorem g_V2l0 {index a t ci : Nat} {fs : List Value} {q : vw_C} {cc' : ByteArray} {M' : GM} {a1 a2 : Value} {P : Int64 → AH → Prop} (hc : Ct E cc' M' [.ref a, a1, a2] h (pL (fun r h' => P r h')) noX) (hk : gCv cc' M' 2) (hlk : Cond.methodLink own index M'.y ∈ lw_all) (ha : h a = some (t, gO ci fs)) (hcl : gCl[ci]? = some q) (hq : q.1 = M'.y.cls) (hR : M'.rm.frames + 1 ≤ M.rm.frames ∧ 8 + (M'.nL + 11) + M'.rm.locals ≤ M.rm.locals) (hz : M'.rm.cells = 0 ∧ M'.rm.slots = 0) (hf : k ≤ M.rm.cells ∧ n ≤ M.rm.slots) (hcat : (st.map fun v => v.category).sum ≤ 8) (d : decode cc pc = .ok (.invokevirtual index, 3)) (kk : ∀ (r : Int64) (h' : AH), P r h' → V E cc own M Po Px X h' k n (pc + 3) ls (.long r :: st)) : V E cc own M Po Px X h k n pc ls (a2 :: a1 :: .ref a :: st) := by
  obtain ⟨z1, z2⟩ := hz
  refine g_callV (av := [a1, a2]) hc hk hlk ha hcl hq hR (by rw [z1, z2]; exact hf) rfl hcat d (fun _ _ _ z => z.elim) (fun v h' z => by
    obtain ⟨r, rfl, p⟩ := z
    rw [z1, z2]
    exact kk r h' p)
theorem g_V2l0x {index a t ci : Nat} {fs : List Value} {q : vw_C} {cc' : ByteArray} {M' : GM} {a1 a2 : Value} {P : Int64 → AH → Prop} {Px' : String → Nat → AH → Prop} (hc : Ct E cc' M' [.ref a, a1, a2] h (pL (fun r h' => P r h')) Px') (hk : gCv cc' M' 2) (hlk : Cond.methodLink own index M'.y ∈ lw_all) (ha : h a = some (t, gO ci fs)) (hcl : gCl[ci]? = some q) (hq : q.1 = M'.y.cls) (hR : M'.rm.frames + 1 ≤ M.rm.frames ∧ 8 + (M'.nL + 11) + M'.rm.locals ≤ M.rm.locals) (hz : M'.rm.cells = 0 ∧ M'.rm.slots = 0) (hf : k ≤ M.rm.cells ∧ n ≤ M.rm.slots) (hcat : (st.map fun v => v.category).sum ≤ 8) (d : decode cc pc = .ok (.invokevirtual index, 3)) (kx : ∀ (C : String) (q : Nat) (h' : AH), Px' C q h' → VX E cc own M Po Px X h' k n pc ls C q) (kk : ∀ (r : Int64) (h' : AH), P r h' → V E cc own M Po Px X h' k n (pc + 3) ls (.long r :: st)) : V E cc own M Po Px X h k n pc ls (a2 :: a1 :: .ref a :: st) := by
  obtain ⟨z1, z2⟩ := hz
  refine g_callV (av := [a1, a2]) hc hk hlk ha hcl hq hR (by rw [z1, z2]; exact hf) rfl hcat d (fun C q h' z => by rw [z1, z2]; exact kx C q h' z) (fun v h' z => by
    obtain ⟨r, rfl, p⟩ := z
    rw [z1, z2]
    exact kk r h' p)
theorem g_V2l {index a t ci : Nat} {fs : List Value} {q : vw_C} {cc' : ByteArray} {M' : GM} {a1 a2 : Value} {P : Int64 → AH → Prop} (hc : Ct E cc' M' [.ref a, a1, a2] h (pL (fun r h' => P r h')) noX) (hk : gCv cc' M' 2) (hlk : Cond.methodLink own index M'.y ∈ lw_all) (ha : h a = some (t, gO ci fs)) (hcl : gCl[ci]? = some q) (hq : q.1 = M'.y.cls) (hR : M'.rm.frames + 1 ≤ M.rm.frames ∧ 8 + (M'.nL + 11) + M'.rm.locals ≤ M.rm.locals) (hf : k + M'.rm.cells ≤ M.rm.cells ∧ n + M'.rm.slots ≤ M.rm.slots) (hcat : (st.map fun v => v.category).sum ≤ 8) (d : decode cc pc = .ok (.invokevirtual index, 3)) (kk : ∀ (r : Int64) (h' : AH), P r h' → V E cc own M Po Px X h' (k + M'.rm.cells) (n + M'.rm.slots) (pc + 3) ls (.long r :: st)) : V E cc own M Po Px X h k n pc ls (a2 :: a1 :: .ref a :: st) := g_callV (av := [a1, a2]) hc hk hlk ha hcl hq hR hf rfl hcat d (fun _ _ _ z => z.elim) (fun v h' z => by
    obtain ⟨r, rfl, p⟩ := z
    exact kk r h' p)
theorem g_V2lx {index a t ci : Nat} {fs : List Value} {q : vw_C} {cc' : ByteArray} {M' : GM} {a1 a2 : Value} {P : Int64 → AH → Prop} {Px' : String → Nat → AH → Prop} (hc : Ct E cc' M' [.ref a, a1, a2] h (pL (fun r h' => P r h')) Px') (hk : gCv cc' M' 2) (hlk : Cond.methodLink own index M'.y ∈ lw_all) (ha : h a = some (t, gO ci fs)) (hcl : gCl[ci]? = some q) (hq : q.1 = M'.y.cls) (hR : M'.rm.frames + 1 ≤ M.rm.frames ∧ 8 + (M'.nL + 11) + M'.rm.locals ≤ M.rm.locals) (hf : k + M'.rm.cells ≤ M.rm.cells ∧ n + M'.rm.slots ≤ M.rm.slots) (hcat : (st.map fun v => v.category).sum ≤ 8) (d : decode cc pc = .ok (.invokevirtual index, 3)) (kx : ∀ (C : String) (q : Nat) (h' : AH), Px' C q h' → VX E cc own M Po Px X h' (k + M'.rm.cells) (n + M'.rm.slots) pc ls C q) (kk : ∀ (r : Int64) (h' : AH), P r h' → V E cc own M Po Px X h' (k + M'.rm.cells) (n + M'.rm.slots) (pc + 3) ls (.long r :: st)) : V E cc own M Po Px X h k n pc ls (a2 :: a1 :: .ref a :: st) := g_callV (av := [a1, a2]) hc hk hlk ha hcl hq hR hf rfl hcat d kx (fun v h' z => by
    obtain ⟨r, rfl, p⟩ := z
    exact kk r h' p)
theorem g_V2r0 {index a t ci : Nat} {fs : List Value} {q : vw_C} {cc' : ByteArray} {M' : GM} {a1 a2 : Value} {P : Nat → AH → Prop} (hc : Ct E cc' M' [.ref a, a1, a2] h (pR (fun r h' => P r h')) noX) (hk : gCv cc' M' 2) (hlk : Cond.methodLink own index M'.y ∈ lw_all) (ha : h a = some (t, gO ci fs)) (hcl : gCl[ci]? = some q) (hq : q.1 = M'.y.cls) (hR : M'.rm.frames + 1 ≤ M.rm.frames ∧ 8 + (M'.nL + 11) + M'.rm.locals ≤ M.rm.locals) (hz : M'.rm.cells = 0 ∧ M'.rm.slots = 0) (hf : k ≤ M.rm.cells ∧ n ≤ M.rm.slots) (hcat : (st.map fun v => v.category).sum ≤ 8) (d : decode cc pc = .ok (.invokevirtual index, 3)) (kk : ∀ (r : Nat) (h' : AH), P r h' → V E cc own M Po Px X h' k n (pc + 3) ls (.ref r :: st)) : V E cc own M Po Px X h k n pc ls (a2 :: a1 :: .ref a :: st) := by
  obtain ⟨z1, z2⟩ := hz
  refine g_callV (av := [a1, a2]) hc hk hlk ha hcl hq hR (by rw [z1, z2]; exact hf) rfl hcat d (fun _ _ _ z => z.elim) (fun v h' z => by
    obtain ⟨r, rfl, p⟩ := z
    rw [z1, z2]
    exact kk r h' p)
theorem g_V2r0x {index a t ci : Nat} {fs : List Value} {q : vw_C} {cc' : ByteArray} {M' : GM} {a1 a2 : Value} {P : Nat → AH → Prop} {Px' : String → Nat → AH → Prop} (hc : Ct E cc' M' [.ref a, a1, a2] h (pR (fun r h' => P r h')) Px') (hk : gCv cc' M' 2) (hlk : Cond.methodLink own index M'.y ∈ lw_all) (ha : h a = some (t, gO ci fs)) (hcl : gCl[ci]? = some q) (hq : q.1 = M'.y.cls) (hR : M'.rm.frames + 1 ≤ M.rm.frames ∧ 8 + (M'.nL + 11) + M'.rm.locals ≤ M.rm.locals) (hz : M'.rm.cells = 0 ∧ M'.rm.slots = 0) (hf : k ≤ M.rm.cells ∧ n ≤ M.rm.slots) (hcat : (st.map fun v => v.category).sum ≤ 8) (d : decode cc pc = .ok (.invokevirtual index, 3)) (kx : ∀ (C : String) (q : Nat) (h' : AH), Px' C q h' → VX E cc own M Po Px X h' k n pc ls C q) (kk : ∀ (r : Nat) (h' : AH), P r h' → V E cc own M Po Px X h' k n (pc + 3) ls (.ref r :: st)) : V E cc own M Po Px X h k n pc ls (a2 :: a1 :: .ref a :: st) := by
  obtain ⟨z1, z2⟩ := hz
  refine g_callV (av := [a1, a2]) hc hk hlk ha hcl hq hR (by rw [z1, z2]; exact hf) rfl hcat d (fun C q h' z => by rw [z1, z2]; exact kx C q h' z) (fun v h' z => by
    obtain ⟨r, rfl, p⟩ := z
    rw [z1, z2]
    exact kk r h' p)
theorem g_V2r {index a t ci : Nat} {fs : List Value} {q : vw_C} {cc' : ByteArray} {M' : GM} {a1 a2 : Value} {P : Nat → AH → Prop} (hc : Ct E cc' M' [.ref a, a1, a2] h (pR (fun r h' => P r h')) noX) (hk : gCv cc' M' 2) (hlk : Cond.methodLink own index M'.y ∈ lw_all) (ha : h a = some (t, gO ci fs)) (hcl : gCl[ci]? = some q) (hq : q.1 = M'.y.cls) (hR : M'.rm.frames + 1 ≤ M.rm.frames ∧ 8 + (M'.nL + 11) + M'.rm.locals ≤ M.rm.locals) (hf : k + M'.rm.cells ≤ M.rm.cells ∧ n + M'.rm.slots ≤ M.rm.slots) (hcat : (st.map fun v => v.category).sum ≤ 8) (d : decode cc pc = .ok (.invokevirtual index, 3)) (kk : ∀ (r : Nat) (h' : AH), P r h' → V E cc own M Po Px X h' (k + M'.rm.cells) (n + M'.rm.slots) (pc + 3) ls (.ref r :: st)) : V E cc own M Po Px X h k n pc ls (a2 :: a1 :: .ref a :: st) := g_callV (av := [a1, a2]) hc hk hlk ha hcl hq hR hf rfl hcat d (fun _ _ _ z => z.elim) (fun v h' z => by
    obtain ⟨r, rfl, p⟩ := z
    exact kk r h' p)
theorem g_V2rx {index a t ci : Nat} {fs : List Value} {q : vw_C} {cc' : ByteArray} {M' : GM} {a1 a2 : Value} {P : Nat → AH → Prop} {Px' : String → Nat → AH → Prop} (hc : Ct E cc' M' [.ref a, a1, a2] h (pR (fun r h' => P r h')) Px') (hk : gCv cc' M' 2) (hlk : Cond.methodLink own index M'.y ∈ lw_all) (ha : h a = some (t, gO ci fs)) (hcl : gCl[ci]? = some q) (hq : q.1 = M'.y.cls) (hR : M'.rm.frames + 1 ≤ M.rm.frames ∧ 8 + (M'.nL + 11) + M'.rm.locals ≤ M.rm.locals) (hf : k + M'.rm.cells ≤ M.rm.cells ∧ n + M'.rm.slots ≤ M.rm.slots) (hcat : (st.map fun v => v.category).sum ≤ 8) (d : decode cc pc = .ok (.invokevirtual index, 3)) (kx : ∀ (C : String) (q : Nat) (h' : AH), Px' C q h' → VX E cc own M Po Px X h' (k + M'.rm.cells) (n + M'.rm.slots) pc ls C q) (kk : ∀ (r : Nat) (h' : AH), P r h' → V E cc own M Po Px X h' (k + M'.rm.cells) (n + M'.rm.slots) (pc + 3) ls (.ref r :: st)) : V E cc own M Po Px X h k n pc ls (a2 :: a1 :: .ref a :: st) := g_callV (av := [a1, a2]) hc hk hlk ha hcl hq hR hf rfl hcat d kx (fun v h' z => by
    obtain ⟨r, rfl, p⟩ := z
    exact kk r h' p)
theorem g_V2q0 {index a t ci : Nat} {fs : List Value} {q : vw_C} {cc' : ByteArray} {M' : GM} {a1 a2 : Value} {P : Option Nat → AH → Prop} (hc : Ct E cc' M' [.ref a, a1, a2] h (pQ (fun r h' => P r h')) noX) (hk : gCv cc' M' 2) (hlk : Cond.methodLink own index M'.y ∈ lw_all) (ha : h a = some (t, gO ci fs)) (hcl : gCl[ci]? = some q) (hq : q.1 = M'.y.cls) (hR : M'.rm.frames + 1 ≤ M.rm.frames ∧ 8 + (M'.nL + 11) + M'.rm.locals ≤ M.rm.locals) (hz : M'.rm.cells = 0 ∧ M'.rm.slots = 0) (hf : k ≤ M.rm.cells ∧ n ≤ M.rm.slots) (hcat : (st.map fun v => v.category).sum ≤ 8) (d : decode cc pc = .ok (.invokevirtual index, 3)) (kk : ∀ (r : Option Nat) (h' : AH), P r h' → V E cc own M Po Px X h' k n (pc + 3) ls (va_rf r :: st)) : V E cc own M Po Px X h k n pc ls (a2 :: a1 :: .ref a :: st) := by
  obtain ⟨z1, z2⟩ := hz
  refine g_callV (av := [a1, a2]) hc hk hlk ha hcl hq hR (by rw [z1, z2]; exact hf) rfl hcat d (fun _ _ _ z => z.elim) (fun v h' z => by
    obtain ⟨r, rfl, p⟩ := z
    rw [z1, z2]
    exact kk r h' p)
theorem g_V2q0x {index a t ci : Nat} {fs : List Value} {q : vw_C} {cc' : ByteArray} {M' : GM} {a1 a2 : Value} {P : Option Nat → AH → Prop} {Px' : String → Nat → AH → Prop} (hc : Ct E cc' M' [.ref a, a1, a2] h (pQ (fun r h' => P r h')) Px') (hk : gCv cc' M' 2) (hlk : Cond.methodLink own index M'.y ∈ lw_all) (ha : h a = some (t, gO ci fs)) (hcl : gCl[ci]? = some q) (hq : q.1 = M'.y.cls) (hR : M'.rm.frames + 1 ≤ M.rm.frames ∧ 8 + (M'.nL + 11) + M'.rm.locals ≤ M.rm.locals) (hz : M'.rm.cells = 0 ∧ M'.rm.slots = 0) (hf : k ≤ M.rm.cells ∧ n ≤ M.rm.slots) (hcat : (st.map fun v => v.category).sum ≤ 8) (d : decode cc pc = .ok (.invokevirtual index, 3)) (kx : ∀ (C : String) (q : Nat) (h' : AH), Px' C q h' → VX E cc own M Po Px X h' k n pc ls C q) (kk : ∀ (r : Option Nat) (h' : AH), P r h' → V E cc own M Po Px X h' k n (pc + 3) ls (va_rf r :: st)) : V E cc own M Po Px X h k n pc ls (a2 :: a1 :: .ref a :: st) := by
  obtain ⟨z1, z2⟩ := hz
  refine g_callV (av := [a1, a2]) hc hk hlk ha hcl hq hR (by rw [z1, z2]; exact hf) rfl hcat d (fun C q h' z => by rw [z1, z2]; exact kx C q h' z) (fun v h' z => by
    obtain ⟨r, rfl, p⟩ := z
    rw [z1, z2]
    exact kk r h' p)
theorem g_V2q {index a t ci : Nat} {fs : List Value} {q : vw_C} {cc' : ByteArray} {M' : GM} {a1 a2 : Value} {P : Option Nat → AH → Prop} (hc : Ct E cc' M' [.ref a, a1, a2] h (pQ (fun r h' => P r h')) noX) (hk : gCv cc' M' 2) (hlk : Cond.methodLink own index M'.y ∈ lw_all) (ha : h a = some (t, gO ci fs)) (hcl : gCl[ci]? = some q) (hq : q.1 = M'.y.cls) (hR : M'.rm.frames + 1 ≤ M.rm.frames ∧ 8 + (M'.nL + 11) + M'.rm.locals ≤ M.rm.locals) (hf : k + M'.rm.cells ≤ M.rm.cells ∧ n + M'.rm.slots ≤ M.rm.slots) (hcat : (st.map fun v => v.category).sum ≤ 8) (d : decode cc pc = .ok (.invokevirtual index, 3)) (kk : ∀ (r : Option Nat) (h' : AH), P r h' → V E cc own M Po Px X h' (k + M'.rm.cells) (n + M'.rm.slots) (pc + 3) ls (va_rf r :: st)) : V E cc own M Po Px X h k n pc ls (a2 :: a1 :: .ref a :: st) := g_callV (av := [a1, a2]) hc hk hlk ha hcl hq hR hf rfl hcat d (fun _ _ _ z => z.elim) (fun v h' z => by
    obtain ⟨r, rfl, p⟩ := z
    exact kk r h' p)
theorem g_V2qx {index a t ci : Nat} {fs : List Value} {q : vw_C} {cc' : ByteArray} {M' : GM} {a1 a2 : Value} {P : Option Nat → AH → Prop} {Px' : String → Nat → AH → Prop} (hc : Ct E cc' M' [.ref a, a1, a2] h (pQ (fun r h' => P r h')) Px') (hk : gCv cc' M' 2) (hlk : Cond.methodLink own index M'.y ∈ lw_all) (ha : h a = some (t, gO ci fs)) (hcl : gCl[ci]? = some q) (hq : q.1 = M'.y.cls) (hR : M'.rm.frames + 1 ≤ M.rm.frames ∧ 8 + (M'.nL + 11) + M'.rm.locals ≤ M.rm.locals) (hf : k + M'.rm.cells ≤ M.rm.cells ∧ n + M'.rm.slots ≤ M.rm.slots) (hcat : (st.map fun v => v.category).sum ≤ 8) (d : decode cc pc = .ok (.invokevirtual index, 3)) (kx : ∀ (C : String) (q : Nat) (h' : AH), Px' C q h' → VX E cc own M Po Px X h' (k + M'.rm.cells) (n + M'.rm.slots) pc ls C q) (kk : ∀ (r : Option Nat) (h' : AH), P r h' → V E cc own M Po Px X h' (k + M'.rm.cells) (n + M'.rm.slots) (pc + 3) ls (va_rf r :: st)) : V E cc own M Po Px X h k n pc ls (a2 :: a1 :: .ref a :: st) := g_callV (av := [a1, a2]) hc hk hlk ha hcl hq hR hf rfl hcat d kx (fun v h' z => by
    obtain ⟨r, rfl, p⟩ := z
    exact kk r h' p)
theorem g_V2v0 {index a t ci : Nat} {fs : List Value} {q : vw_C} {cc' : ByteArray} {M' : GM} {a1 a2 : Value} {P : AH → Prop} (hc : Ct E cc' M' [.ref a, a1, a2] h (pV (fun h' => P h')) noX) (hk : gCv cc' M' 2) (hlk : Cond.methodLink own index M'.y ∈ lw_all) (ha : h a = some (t, gO ci fs)) (hcl : gCl[ci]? = some q) (hq : q.1 = M'.y.cls) (hR : M'.rm.frames + 1 ≤ M.rm.frames ∧ 8 + (M'.nL + 11) + M'.rm.locals ≤ M.rm.locals) (hz : M'.rm.cells = 0 ∧ M'.rm.slots = 0) (hf : k ≤ M.rm.cells ∧ n ≤ M.rm.slots) (hcat : (st.map fun v => v.category).sum ≤ 8) (d : decode cc pc = .ok (.invokevirtual index, 3)) (kk : ∀ (h' : AH), P h' → V E cc own M Po Px X h' k n (pc + 3) ls st) : V E cc own M Po Px X h k n pc ls (a2 :: a1 :: .ref a :: st) := by
  obtain ⟨z1, z2⟩ := hz
  refine g_callV (av := [a1, a2]) hc hk hlk ha hcl hq hR (by rw [z1, z2]; exact hf) rfl hcat d (fun _ _ _ z => z.elim) (fun v h' z => by
    obtain ⟨rfl, p⟩ := z
    rw [z1, z2]
    exact kk h' p)
theorem g_V2v0x {index a t ci : Nat} {fs : List Value} {q : vw_C} {cc' : ByteArray} {M' : GM} {a1 a2 : Value} {P : AH → Prop} {Px' : String → Nat → AH → Prop} (hc : Ct E cc' M' [.ref a, a1, a2] h (pV (fun h' => P h')) Px') (hk : gCv cc' M' 2) (hlk : Cond.methodLink own index M'.y ∈ lw_all) (ha : h a = some (t, gO ci fs)) (hcl : gCl[ci]? = some q) (hq : q.1 = M'.y.cls) (hR : M'.rm.frames + 1 ≤ M.rm.frames ∧ 8 + (M'.nL + 11) + M'.rm.locals ≤ M.rm.locals) (hz : M'.rm.cells = 0 ∧ M'.rm.slots = 0) (hf : k ≤ M.rm.cells ∧ n ≤ M.rm.slots) (hcat : (st.map fun v => v.category).sum ≤ 8) (d : decode cc pc = .ok (.invokevirtual index, 3)) (kx : ∀ (C : String) (q : Nat) (h' : AH), Px' C q h' → VX E cc own M Po Px X h' k n pc ls C q) (kk : ∀ (h' : AH), P h' → V E cc own M Po Px X h' k n (pc + 3) ls st) : V E cc own M Po Px X h k n pc ls (a2 :: a1 :: .ref a :: st) := by
  obtain ⟨z1, z2⟩ := hz
  refine g_callV (av := [a1, a2]) hc hk hlk ha hcl hq hR (by rw [z1, z2]; exact hf) rfl hcat d (fun C q h' z => by rw [z1, z2]; exact kx C q h' z) (fun v h' z => by
    obtain ⟨rfl, p⟩ := z
    rw [z1, z2]
    exact kk h' p)
theorem g_V2v {index a t ci : Nat} {fs : List Value} {q : vw_C} {cc' : ByteArray} {M' : GM} {a1 a2 : Value} {P : AH → Prop} (hc : Ct E cc' M' [.ref a, a1, a2] h (pV (fun h' => P h')) noX) (hk : gCv cc' M' 2) (hlk : Cond.methodLink own index M'.y ∈ lw_all) (ha : h a = some (t, gO ci fs)) (hcl : gCl[ci]? = some q) (hq : q.1 = M'.y.cls) (hR : M'.rm.frames + 1 ≤ M.rm.frames ∧ 8 + (M'.nL + 11) + M'.rm.locals ≤ M.rm.locals) (hf : k + M'.rm.cells ≤ M.rm.cells ∧ n + M'.rm.slots ≤ M.rm.slots) (hcat : (st.map fun v => v.category).sum ≤ 8) (d : decode cc pc = .ok (.invokevirtual index, 3)) (kk : ∀ (h' : AH), P h' → V E cc own M Po Px X h' (k + M'.rm.cells) (n + M'.rm.slots) (pc + 3) ls st) : V E cc own M Po Px X h k n pc ls (a2 :: a1 :: .ref a :: st) := g_callV (av := [a1, a2]) hc hk hlk ha hcl hq hR hf rfl hcat d (fun _ _ _ z => z.elim) (fun v h' z => by
    obtain ⟨rfl, p⟩ := z
    exact kk h' p)
theorem g_V2vx {index a t ci : Nat} {fs : List Value} {q : vw_C} {cc' : ByteArray} {M' : GM} {a1 a2 : Value} {P : AH → Prop} {Px' : String → Nat → AH → Prop} (hc : Ct E cc' M' [.ref a, a1, a2] h (pV (fun h' => P h')) Px') (hk : gCv cc' M' 2) (hlk : Cond.methodLink own index M'.y ∈ lw_all) (ha : h a = some (t, gO ci fs)) (hcl : gCl[ci]? = some q) (hq : q.1 = M'.y.cls) (hR : M'.rm.frames + 1 ≤ M.rm.frames ∧ 8 + (M'.nL + 11) + M'.rm.locals ≤ M.rm.locals) (hf : k + M'.rm.cells ≤ M.rm.cells ∧ n + M'.rm.slots ≤ M.rm.slots) (hcat : (st.map fun v => v.category).sum ≤ 8) (d : decode cc pc = .ok (.invokevirtual index, 3)) (kx : ∀ (C : String) (q : Nat) (h' : AH), Px' C q h' → VX E cc own M Po Px X h' (k + M'.rm.cells) (n + M'.rm.slots) pc ls C q) (kk : ∀ (h' : AH), P h' → V E cc own M Po Px X h' (k + M'.rm.cells) (n + M'.rm.slots) (pc + 3) ls st) : V E cc own M Po Px X h k n pc ls (a2 :: a1 :: .ref a :: st) := g_callV (av := [a1, a2]) hc hk hlk ha hcl hq hR hf rfl hcat d kx (fun v h' z => by
    obtain ⟨rfl, p⟩ := z
    exact kk h' p)
theorem g_V3i0 {index a t ci : Nat} {fs : List Value} {q : vw_C} {cc' : ByteArray} {M' : GM} {a1 a2 a3 : Value} {P : Int32 → AH → Prop} (hc : Ct E cc' M' [.ref a, a1, a2, a3] h (pI (fun r h' => P r h')) noX) (hk : gCv cc' M' 3) (hlk : Cond.methodLink own index M'.y ∈ lw_all) (ha : h a = some (t, gO ci fs)) (hcl : gCl[ci]? = some q) (hq : q.1 = M'.y.cls) (hR : M'.rm.frames + 1 ≤ M.rm.frames ∧ 8 + (M'.nL + 11) + M'.rm.locals ≤ M.rm.locals) (hz : M'.rm.cells = 0 ∧ M'.rm.slots = 0) (hf : k ≤ M.rm.cells ∧ n ≤ M.rm.slots) (hcat : (st.map fun v => v.category).sum ≤ 8) (d : decode cc pc = .ok (.invokevirtual index, 3)) (kk : ∀ (r : Int32) (h' : AH), P r h' → V E cc own M Po Px X h' k n (pc + 3) ls (.int r :: st)) : V E cc own M Po Px X h k n pc ls (a3 :: a2 :: a1 :: .ref a :: st) := by
  obtain ⟨z1, z2⟩ := hz
  refine g_callV (av := [a1, a2, a3]) hc hk hlk ha hcl hq hR (by rw [z1, z2]; exact hf) rfl hcat d (fun _ _ _ z => z.elim) (fun v h' z => by
    obtain ⟨r, rfl, p⟩ := z
    rw [z1, z2]
    exact kk r h' p)
theorem g_V3i0x {index a t ci : Nat} {fs : List Value} {q : vw_C} {cc' : ByteArray} {M' : GM} {a1 a2 a3 : Value} {P : Int32 → AH → Prop} {Px' : String → Nat → AH → Prop} (hc : Ct E cc' M' [.ref a, a1, a2, a3] h (pI (fun r h' => P r h')) Px') (hk : gCv cc' M' 3) (hlk : Cond.methodLink own index M'.y ∈ lw_all) (ha : h a = some (t, gO ci fs)) (hcl : gCl[ci]? = some q) (hq : q.1 = M'.y.cls) (hR : M'.rm.frames + 1 ≤ M.rm.frames ∧ 8 + (M'.nL + 11) + M'.rm.locals ≤ M.rm.locals) (hz : M'.rm.cells = 0 ∧ M'.rm.slots = 0) (hf : k ≤ M.rm.cells ∧ n ≤ M.rm.slots) (hcat : (st.map fun v => v.category).sum ≤ 8) (d : decode cc pc = .ok (.invokevirtual index, 3)) (kx : ∀ (C : String) (q : Nat) (h' : AH), Px' C q h' → VX E cc own M Po Px X h' k n pc ls C q) (kk : ∀ (r : Int32) (h' : AH), P r h' → V E cc own M Po Px X h' k n (pc + 3) ls (.int r :: st)) : V E cc own M Po Px X h k n pc ls (a3 :: a2 :: a1 :: .ref a :: st) := by
  obtain ⟨z1, z2⟩ := hz
  refine g_callV (av := [a1, a2, a3]) hc hk hlk ha hcl hq hR (by rw [z1, z2]; exact hf) rfl hcat d (fun C q h' z => by rw [z1, z2]; exact kx C q h' z) (fun v h' z => by
    obtain ⟨r, rfl, p⟩ := z
    rw [z1, z2]
    exact kk r h' p)
theorem g_V3i {index a t ci : Nat} {fs : List Value} {q : vw_C} {cc' : ByteArray} {M' : GM} {a1 a2 a3 : Value} {P : Int32 → AH → Prop} (hc : Ct E cc' M' [.ref a, a1, a2, a3] h (pI (fun r h' => P r h')) noX) (hk : gCv cc' M' 3) (hlk : Cond.methodLink own index M'.y ∈ lw_all) (ha : h a = some (t, gO ci fs)) (hcl : gCl[ci]? = some q) (hq : q.1 = M'.y.cls) (hR : M'.rm.frames + 1 ≤ M.rm.frames ∧ 8 + (M'.nL + 11) + M'.rm.locals ≤ M.rm.locals) (hf : k + M'.rm.cells ≤ M.rm.cells ∧ n + M'.rm.slots ≤ M.rm.slots) (hcat : (st.map fun v => v.category).sum ≤ 8) (d : decode cc pc = .ok (.invokevirtual index, 3)) (kk : ∀ (r : Int32) (h' : AH), P r h' → V E cc own M Po Px X h' (k + M'.rm.cells) (n + M'.rm.slots) (pc + 3) ls (.int r :: st)) : V E cc own M Po Px X h k n pc ls (a3 :: a2 :: a1 :: .ref a :: st) := g_callV (av := [a1, a2, a3]) hc hk hlk ha hcl hq hR hf rfl hcat d (fun _ _ _ z => z.elim) (fun v h' z => by
    obtain ⟨r, rfl, p⟩ := z
    exact kk r h' p)
theorem g_V3ix {index a t ci : Nat} {fs : List Value} {q : vw_C} {cc' : ByteArray} {M' : GM} {a1 a2 a3 : Value} {P : Int32 → AH → Prop} {Px' : String → Nat → AH → Prop} (hc : Ct E cc' M' [.ref a, a1, a2, a3] h (pI (fun r h' => P r h')) Px') (hk : gCv cc' M' 3) (hlk : Cond.methodLink own index M'.y ∈ lw_all) (ha : h a = some (t, gO ci fs)) (hcl : gCl[ci]? = some q) (hq : q.1 = M'.y.cls) (hR : M'.rm.frames + 1 ≤ M.rm.frames ∧ 8 + (M'.nL + 11) + M'.rm.locals ≤ M.rm.locals) (hf : k + M'.rm.cells ≤ M.rm.cells ∧ n + M'.rm.slots ≤ M.rm.slots) (hcat : (st.map fun v => v.category).sum ≤ 8) (d : decode cc pc = .ok (.invokevirtual index, 3)) (kx : ∀ (C : String) (q : Nat) (h' : AH), Px' C q h' → VX E cc own M Po Px X h' (k + M'.rm.cells) (n + M'.rm.slots) pc ls C q) (kk : ∀ (r : Int32) (h' : AH), P r h' → V E cc own M Po Px X h' (k + M'.rm.cells) (n + M'.rm.slots) (pc + 3) ls (.int r :: st)) : V E cc own M Po Px X h k n pc ls (a3 :: a2 :: a1 :: .ref a :: st) := g_callV (av := [a1, a2, a3]) hc hk hlk ha hcl hq hR hf rfl hcat d kx (fun v h' z => by
    obtain ⟨r, rfl, p⟩ := z
    exact kk r h' p)
theorem g_V3n0 {index a t ci : Nat} {fs : List Value} {q : vw_C} {cc' : ByteArray} {M' : GM} {a1 a2 a3 : Value} {P : Nat → AH → Prop} (hc : Ct E cc' M' [.ref a, a1, a2, a3] h (pN (fun r h' => P r h')) noX) (hk : gCv cc' M' 3) (hlk : Cond.methodLink own index M'.y ∈ lw_all) (ha : h a = some (t, gO ci fs)) (hcl : gCl[ci]? = some q) (hq : q.1 = M'.y.cls) (hR : M'.rm.frames + 1 ≤ M.rm.frames ∧ 8 + (M'.nL + 11) + M'.rm.locals ≤ M.rm.locals) (hz : M'.rm.cells = 0 ∧ M'.rm.slots = 0) (hf : k ≤ M.rm.cells ∧ n ≤ M.rm.slots) (hcat : (st.map fun v => v.category).sum ≤ 8) (d : decode cc pc = .ok (.invokevirtual index, 3)) (kk : ∀ (r : Nat) (h' : AH), P r h' → V E cc own M Po Px X h' k n (pc + 3) ls (.int (nI r) :: st)) : V E cc own M Po Px X h k n pc ls (a3 :: a2 :: a1 :: .ref a :: st) := by
  obtain ⟨z1, z2⟩ := hz
  refine g_callV (av := [a1, a2, a3]) hc hk hlk ha hcl hq hR (by rw [z1, z2]; exact hf) rfl hcat d (fun _ _ _ z => z.elim) (fun v h' z => by
    obtain ⟨r, rfl, p⟩ := z
    rw [z1, z2]
    exact kk r h' p)
theorem g_V3n0x {index a t ci : Nat} {fs : List Value} {q : vw_C} {cc' : ByteArray} {M' : GM} {a1 a2 a3 : Value} {P : Nat → AH → Prop} {Px' : String → Nat → AH → Prop} (hc : Ct E cc' M' [.ref a, a1, a2, a3] h (pN (fun r h' => P r h')) Px') (hk : gCv cc' M' 3) (hlk : Cond.methodLink own index M'.y ∈ lw_all) (ha : h a = some (t, gO ci fs)) (hcl : gCl[ci]? = some q) (hq : q.1 = M'.y.cls) (hR : M'.rm.frames + 1 ≤ M.rm.frames ∧ 8 + (M'.nL + 11) + M'.rm.locals ≤ M.rm.locals) (hz : M'.rm.cells = 0 ∧ M'.rm.slots = 0) (hf : k ≤ M.rm.cells ∧ n ≤ M.rm.slots) (hcat : (st.map fun v => v.category).sum ≤ 8) (d : decode cc pc = .ok (.invokevirtual index, 3)) (kx : ∀ (C : String) (q : Nat) (h' : AH), Px' C q h' → VX E cc own M Po Px X h' k n pc ls C q) (kk : ∀ (r : Nat) (h' : AH), P r h' → V E cc own M Po Px X h' k n (pc + 3) ls (.int (nI r) :: st)) : V E cc own M Po Px X h k n pc ls (a3 :: a2 :: a1 :: .ref a :: st) := by
  obtain ⟨z1, z2⟩ := hz
  refine g_callV (av := [a1, a2, a3]) hc hk hlk ha hcl hq hR (by rw [z1, z2]; exact hf) rfl hcat d (fun C q h' z => by rw [z1, z2]; exact kx C q h' z) (fun v h' z => by
    obtain ⟨r, rfl, p⟩ := z
    rw [z1, z2]
    exact kk r h' p)
theorem g_V3n {index a t ci : Nat} {fs : List Value} {q : vw_C} {cc' : ByteArray} {M' : GM} {a1 a2 a3 : Value} {P : Nat → AH → Prop} (hc : Ct E cc' M' [.ref a, a1, a2, a3] h (pN (fun r h' => P r h')) noX) (hk : gCv cc' M' 3) (hlk : Cond.methodLink own index M'.y ∈ lw_all) (ha : h a = some (t, gO ci fs)) (hcl : gCl[ci]? = some q) (hq : q.1 = M'.y.cls) (hR : M'.rm.frames + 1 ≤ M.rm.frames ∧ 8 + (M'.nL + 11) + M'.rm.locals ≤ M.rm.locals) (hf : k + M'.rm.cells ≤ M.rm.cells ∧ n + M'.rm.slots ≤ M.rm.slots) (hcat : (st.map fun v => v.category).sum ≤ 8) (d : decode cc pc = .ok (.invokevirtual index, 3)) (kk : ∀ (r : Nat) (h' : AH), P r h' → V E cc own M Po Px X h' (k + M'.rm.cells) (n + M'.rm.slots) (pc + 3) ls (.int (nI r) :: st)) : V E cc own M Po Px X h k n pc ls (a3 :: a2 :: a1 :: .ref a :: st) := g_callV (av := [a1, a2, a3]) hc hk hlk ha hcl hq hR hf rfl hcat d (fun _ _ _ z => z.elim) (fun v h' z => by
    obtain ⟨r, rfl, p⟩ := z
    exact kk r h' p)
theorem g_V3nx {index a t ci : Nat} {fs : List Value} {q : vw_C} {cc' : ByteArray} {M' : GM} {a1 a2 a3 : Value} {P : Nat → AH → Prop} {Px' : String → Nat → AH → Prop} (hc : Ct E cc' M' [.ref a, a1, a2, a3] h (pN (fun r h' => P r h')) Px') (hk : gCv cc' M' 3) (hlk : Cond.methodLink own index M'.y ∈ lw_all) (ha : h a = some (t, gO ci fs)) (hcl : gCl[ci]? = some q) (hq : q.1 = M'.y.cls) (hR : M'.rm.frames + 1 ≤ M.rm.frames ∧ 8 + (M'.nL + 11) + M'.rm.locals ≤ M.rm.locals) (hf : k + M'.rm.cells ≤ M.rm.cells ∧ n + M'.rm.slots ≤ M.rm.slots) (hcat : (st.map fun v => v.category).sum ≤ 8) (d : decode cc pc = .ok (.invokevirtual index, 3)) (kx : ∀ (C : String) (q : Nat) (h' : AH), Px' C q h' → VX E cc own M Po Px X h' (k + M'.rm.cells) (n + M'.rm.slots) pc ls C q) (kk : ∀ (r : Nat) (h' : AH), P r h' → V E cc own M Po Px X h' (k + M'.rm.cells) (n + M'.rm.slots) (pc + 3) ls (.int (nI r) :: st)) : V E cc own M Po Px X h k n pc ls (a3 :: a2 :: a1 :: .ref a :: st) := g_callV (av := [a1, a2, a3]) hc hk hlk ha hcl hq hR hf rfl hcat d kx (fun v h' z => by
    obtain ⟨r, rfl, p⟩ := z
    exact kk r h' p)
theorem g_V3l0 {index a t ci : Nat} {fs : List Value} {q : vw_C} {cc' : ByteArray} {M' : GM} {a1 a2 a3 : Value} {P : Int64 → AH → Prop} (hc : Ct E cc' M' [.ref a, a1, a2, a3] h (pL (fun r h' => P r h')) noX) (hk : gCv cc' M' 3) (hlk : Cond.methodLink own index M'.y ∈ lw_all) (ha : h a = some (t, gO ci fs)) (hcl : gCl[ci]? = some q) (hq : q.1 = M'.y.cls) (hR : M'.rm.frames + 1 ≤ M.rm.frames ∧ 8 + (M'.nL + 11) + M'.rm.locals ≤ M.rm.locals) (hz : M'.rm.cells = 0 ∧ M'.rm.slots = 0) (hf : k ≤ M.rm.cells ∧ n ≤ M.rm.slots) (hcat : (st.map fun v => v.category).sum ≤ 8) (d : decode cc pc = .ok (.invokevirtual index, 3)) (kk : ∀ (r : Int64) (h' : AH), P r h' → V E cc own M Po Px X h' k n (pc + 3) ls (.long r :: st)) : V E cc own M Po Px X h k n pc ls (a3 :: a2 :: a1 :: .ref a :: st) := by
  obtain ⟨z1, z2⟩ := hz
  refine g_callV (av := [a1, a2, a3]) hc hk hlk ha hcl hq hR (by rw [z1, z2]; exact hf) rfl hcat d (fun _ _ _ z => z.elim) (fun v h' z => by
    obtain ⟨r, rfl, p⟩ := z
    rw [z1, z2]
    exact kk r h' p)
theorem g_V3l0x {index a t ci : Nat} {fs : List Value} {q : vw_C} {cc' : ByteArray} {M' : GM} {a1 a2 a3 : Value} {P : Int64 → AH → Prop} {Px' : String → Nat → AH → Prop} (hc : Ct E cc' M' [.ref a, a1, a2, a3] h (pL (fun r h' => P r h')) Px') (hk : gCv cc' M' 3) (hlk : Cond.methodLink own index M'.y ∈ lw_all) (ha : h a = some (t, gO ci fs)) (hcl : gCl[ci]? = some q) (hq : q.1 = M'.y.cls) (hR : M'.rm.frames + 1 ≤ M.rm.frames ∧ 8 + (M'.nL + 11) + M'.rm.locals ≤ M.rm.locals) (hz : M'.rm.cells = 0 ∧ M'.rm.slots = 0) (hf : k ≤ M.rm.cells ∧ n ≤ M.rm.slots) (hcat : (st.map fun v => v.category).sum ≤ 8) (d : decode cc pc = .ok (.invokevirtual index, 3)) (kx : ∀ (C : String) (q : Nat) (h' : AH), Px' C q h' → VX E cc own M Po Px X h' k n pc ls C q) (kk : ∀ (r : Int64) (h' : AH), P r h' → V E cc own M Po Px X h' k n (pc + 3) ls (.long r :: st)) : V E cc own M Po Px X h k n pc ls (a3 :: a2 :: a1 :: .ref a :: st) := by
  obtain ⟨z1, z2⟩ := hz
  refine g_callV (av := [a1, a2, a3]) hc hk hlk ha hcl hq hR (by rw [z1, z2]; exact hf) rfl hcat d (fun C q h' z => by rw [z1, z2]; exact kx C q h' z) (fun v h' z => by
    obtain ⟨r, rfl, p⟩ := z
    rw [z1, z2]
    exact kk r h' p)
theorem g_V3l {index a t ci : Nat} {fs : List Value} {q : vw_C} {cc' : ByteArray} {M' : GM} {a1 a2 a3 : Value} {P : Int64 → AH → Prop} (hc : Ct E cc' M' [.ref a, a1, a2, a3] h (pL (fun r h' => P r h')) noX) (hk : gCv cc' M' 3) (hlk : Cond.methodLink own index M'.y ∈ lw_all) (ha : h a = some (t, gO ci fs)) (hcl : gCl[ci]? = some q) (hq : q.1 = M'.y.cls) (hR : M'.rm.frames + 1 ≤ M.rm.frames ∧ 8 + (M'.nL + 11) + M'.rm.locals ≤ M.rm.locals) (hf : k + M'.rm.cells ≤ M.rm.cells ∧ n + M'.rm.slots ≤ M.rm.slots) (hcat : (st.map fun v => v.category).sum ≤ 8) (d : decode cc pc = .ok (.invokevirtual index, 3)) (kk : ∀ (r : Int64) (h' : AH), P r h' → V E cc own M Po Px X h' (k + M'.rm.cells) (n + M'.rm.slots) (pc + 3) ls (.long r :: st)) : V E cc own M Po Px X h k n pc ls (a3 :: a2 :: a1 :: .ref a :: st) := g_callV (av := [a1, a2, a3]) hc hk hlk ha hcl hq hR hf rfl hcat d (fun _ _ _ z => z.elim) (fun v h' z => by
    obtain ⟨r, rfl, p⟩ := z
    exact kk r h' p)
theorem g_V3lx {index a t ci : Nat} {fs : List Value} {q : vw_C} {cc' : ByteArray} {M' : GM} {a1 a2 a3 : Value} {P : Int64 → AH → Prop} {Px' : String → Nat → AH → Prop} (hc : Ct E cc' M' [.ref a, a1, a2, a3] h (pL (fun r h' => P r h')) Px') (hk : gCv cc' M' 3) (hlk : Cond.methodLink own index M'.y ∈ lw_all) (ha : h a = some (t, gO ci fs)) (hcl : gCl[ci]? = some q) (hq : q.1 = M'.y.cls) (hR : M'.rm.frames + 1 ≤ M.rm.frames ∧ 8 + (M'.nL + 11) + M'.rm.locals ≤ M.rm.locals) (hf : k + M'.rm.cells ≤ M.rm.cells ∧ n + M'.rm.slots ≤ M.rm.slots) (hcat : (st.map fun v => v.category).sum ≤ 8) (d : decode cc pc = .ok (.invokevirtual index, 3)) (kx : ∀ (C : String) (q : Nat) (h' : AH), Px' C q h' → VX E cc own M Po Px X h' (k + M'.rm.cells) (n + M'.rm.slots) pc ls C q) (kk : ∀ (r : Int64) (h' : AH), P r h' → V E cc own M Po Px X h' (k + M'.rm.cells) (n + M'.rm.slots) (pc + 3) ls (.long r :: st)) : V E cc own M Po Px X h k n pc ls (a3 :: a2 :: a1 :: .ref a :: st) := g_callV (av := [a1, a2, a3]) hc hk hlk ha hcl hq hR hf rfl hcat d kx (fun v h' z => by
    obtain ⟨r, rfl, p⟩ := z
    exact kk r h' p)
theorem g_V3r0 {index a t ci : Nat} {fs : List Value} {q : vw_C} {cc' : ByteArray} {M' : GM} {a1 a2 a3 : Value} {P : Nat → AH → Prop} (hc : Ct E cc' M' [.ref a, a1, a2, a3] h (pR (fun r h' => P r h')) noX) (hk : gCv cc' M' 3) (hlk : Cond.methodLink own index M'.y ∈ lw_all) (ha : h a = some (t, gO ci fs)) (hcl : gCl[ci]? = some q) (hq : q.1 = M'.y.cls) (hR : M'.rm.frames + 1 ≤ M.rm.frames ∧ 8 + (M'.nL + 11) + M'.rm.locals ≤ M.rm.locals) (hz : M'.rm.cells = 0 ∧ M'.rm.slots = 0) (hf : k ≤ M.rm.cells ∧ n ≤ M.rm.slots) (hcat : (st.map fun v => v.category).sum ≤ 8) (d : decode cc pc = .ok (.invokevirtual index, 3)) (kk : ∀ (r : Nat) (h' : AH), P r h' → V E cc own M Po Px X h' k n (pc + 3) ls (.ref r :: st)) : V E cc own M Po Px X h k n pc ls (a3 :: a2 :: a1 :: .ref a :: st) := by
  obtain ⟨z1, z2⟩ := hz
  refine g_callV (av := [a1, a2, a3]) hc hk hlk ha hcl hq hR (by rw [z1, z2]; exact hf) rfl hcat d (fun _ _ _ z => z.elim) (fun v h' z => by
    obtain ⟨r, rfl, p⟩ := z
    rw [z1, z2]
    exact kk r h' p)
theorem g_V3r0x {index a t ci : Nat} {fs : List Value} {q : vw_C} {cc' : ByteArray} {M' : GM} {a1 a2 a3 : Value} {P : Nat → AH → Prop} {Px' : String → Nat → AH → Prop} (hc : Ct E cc' M' [.ref a, a1, a2, a3] h (pR (fun r h' => P r h')) Px') (hk : gCv cc' M' 3) (hlk : Cond.methodLink own index M'.y ∈ lw_all) (ha : h a = some (t, gO ci fs)) (hcl : gCl[ci]? = some q) (hq : q.1 = M'.y.cls) (hR : M'.rm.frames + 1 ≤ M.rm.frames ∧ 8 + (M'.nL + 11) + M'.rm.locals ≤ M.rm.locals) (hz : M'.rm.cells = 0 ∧ M'.rm.slots = 0) (hf : k ≤ M.rm.cells ∧ n ≤ M.rm.slots) (hcat : (st.map fun v => v.category).sum ≤ 8) (d : decode cc pc = .ok (.invokevirtual index, 3)) (kx : ∀ (C : String) (q : Nat) (h' : AH), Px' C q h' → VX E cc own M Po Px X h' k n pc ls C q) (kk : ∀ (r : Nat) (h' : AH), P r h' → V E cc own M Po Px X h' k n (pc + 3) ls (.ref r :: st)) : V E cc own M Po Px X h k n pc ls (a3 :: a2 :: a1 :: .ref a :: st) := by
  obtain ⟨z1, z2⟩ := hz
  refine g_callV (av := [a1, a2, a3]) hc hk hlk ha hcl hq hR (by rw [z1, z2]; exact hf) rfl hcat d (fun C q h' z => by rw [z1, z2]; exact kx C q h' z) (fun v h' z => by
    obtain ⟨r, rfl, p⟩ := z
    rw [z1, z2]
    exact kk r h' p)
theorem g_V3r {index a t ci : Nat} {fs : List Value} {q : vw_C} {cc' : ByteArray} {M' : GM} {a1 a2 a3 : Value} {P : Nat → AH → Prop} (hc : Ct E cc' M' [.ref a, a1, a2, a3] h (pR (fun r h' => P r h')) noX) (hk : gCv cc' M' 3) (hlk : Cond.methodLink own index M'.y ∈ lw_all) (ha : h a = some (t, gO ci fs)) (hcl : gCl[ci]? = some q) (hq : q.1 = M'.y.cls) (hR : M'.rm.frames + 1 ≤ M.rm.frames ∧ 8 + (M'.nL + 11) + M'.rm.locals ≤ M.rm.locals) (hf : k + M'.rm.cells ≤ M.rm.cells ∧ n + M'.rm.slots ≤ M.rm.slots) (hcat : (st.map fun v => v.category).sum ≤ 8) (d : decode cc pc = .ok (.invokevirtual index, 3)) (kk : ∀ (r : Nat) (h' : AH), P r h' → V E cc own M Po Px X h' (k + M'.rm.cells) (n + M'.rm.slots) (pc + 3) ls (.ref r :: st)) : V E cc own M Po Px X h k n pc ls (a3 :: a2 :: a1 :: .ref a :: st) := g_callV (av := [a1, a2, a3]) hc hk hlk ha hcl hq hR hf rfl hcat d (fun _ _ _ z => z.elim) (fun v h' z => by
    obtain ⟨r, rfl, p⟩ := z
    exact kk r h' p)
theorem g_V3rx {index a t ci : Nat} {fs : List Value} {q : vw_C} {cc' : ByteArray} {M' : GM} {a1 a2 a3 : Value} {P : Nat → AH → Prop} {Px' : String → Nat → AH → Prop} (hc : Ct E cc' M' [.ref a, a1, a2, a3] h (pR (fun r h' => P r h')) Px') (hk : gCv cc' M' 3) (hlk : Cond.methodLink own index M'.y ∈ lw_all) (ha : h a = some (t, gO ci fs)) (hcl : gCl[ci]? = some q) (hq : q.1 = M'.y.cls) (hR : M'.rm.frames + 1 ≤ M.rm.frames ∧ 8 + (M'.nL + 11) + M'.rm.locals ≤ M.rm.locals) (hf : k + M'.rm.cells ≤ M.rm.cells ∧ n + M'.rm.slots ≤ M.rm.slots) (hcat : (st.map fun v => v.category).sum ≤ 8) (d : decode cc pc = .ok (.invokevirtual index, 3)) (kx : ∀ (C : String) (q : Nat) (h' : AH), Px' C q h' → VX E cc own M Po Px X h' (k + M'.rm.cells) (n + M'.rm.slots) pc ls C q) (kk : ∀ (r : Nat) (h' : AH), P r h' → V E cc own M Po Px X h' (k + M'.rm.cells) (n + M'.rm.slots) (pc + 3) ls (.ref r :: st)) : V E cc own M Po Px X h k n pc ls (a3 :: a2 :: a1 :: .ref a :: st) := g_callV (av := [a1, a2, a3]) hc hk hlk ha hcl hq hR hf rfl hcat d kx (fun v h' z => by
    obtain ⟨r, rfl, p⟩ := z
    exact kk r h' p)
theorem g_V3q0 {index a t ci : Nat} {fs : List Value} {q : vw_C} {cc' : ByteArray} {M' : GM} {a1 a2 a3 : Value} {P : Option Nat → AH → Prop} (hc : Ct E cc' M' [.ref a, a1, a2, a3] h (pQ (fun r h' => P r h')) noX) (hk : gCv cc' M' 3) (hlk : Cond.methodLink own index M'.y ∈ lw_all) (ha : h a = some (t, gO ci fs)) (hcl : gCl[ci]? = some q) (hq : q.1 = M'.y.cls) (hR : M'.rm.frames + 1 ≤ M.rm.frames ∧ 8 + (M'.nL + 11) + M'.rm.locals ≤ M.rm.locals) (hz : M'.rm.cells = 0 ∧ M'.rm.slots = 0) (hf : k ≤ M.rm.cells ∧ n ≤ M.rm.slots) (hcat : (st.map fun v => v.category).sum ≤ 8) (d : decode cc pc = .ok (.invokevirtual index, 3)) (kk : ∀ (r : Option Nat) (h' : AH), P r h' → V E cc own M Po Px X h' k n (pc + 3) ls (va_rf r :: st)) : V E cc own M Po Px X h k n pc ls (a3 :: a2 :: a1 :: .ref a :: st) := by
  obtain ⟨z1, z2⟩ := hz
  refine g_callV (av := [a1, a2, a3]) hc hk hlk ha hcl hq hR (by rw [z1, z2]; exact hf) rfl hcat d (fun _ _ _ z => z.elim) (fun v h' z => by
    obtain ⟨r, rfl, p⟩ := z
    rw [z1, z2]
    exact kk r h' p)
theorem g_V3q0x {index a t ci : Nat} {fs : List Value} {q : vw_C} {cc' : ByteArray} {M' : GM} {a1 a2 a3 : Value} {P : Option Nat → AH → Prop} {Px' : String → Nat → AH → Prop} (hc : Ct E cc' M' [.ref a, a1, a2, a3] h (pQ (fun r h' => P r h')) Px') (hk : gCv cc' M' 3) (hlk : Cond.methodLink own index M'.y ∈ lw_all) (ha : h a = some (t, gO ci fs)) (hcl : gCl[ci]? = some q) (hq : q.1 = M'.y.cls) (hR : M'.rm.frames + 1 ≤ M.rm.frames ∧ 8 + (M'.nL + 11) + M'.rm.locals ≤ M.rm.locals) (hz : M'.rm.cells = 0 ∧ M'.rm.slots = 0) (hf : k ≤ M.rm.cells ∧ n ≤ M.rm.slots) (hcat : (st.map fun v => v.category).sum ≤ 8) (d : decode cc pc = .ok (.invokevirtual index, 3)) (kx : ∀ (C : String) (q : Nat) (h' : AH), Px' C q h' → VX E cc own M Po Px X h' k n pc ls C q) (kk : ∀ (r : Option Nat) (h' : AH), P r h' → V E cc own M Po Px X h' k n (pc + 3) ls (va_rf r :: st)) : V E cc own M Po Px X h k n pc ls (a3 :: a2 :: a1 :: .ref a :: st) := by
  obtain ⟨z1, z2⟩ := hz
  refine g_callV (av := [a1, a2, a3]) hc hk hlk ha hcl hq hR (by rw [z1, z2]; exact hf) rfl hcat d (fun C q h' z => by rw [z1, z2]; exact kx C q h' z) (fun v h' z => by
    obtain ⟨r, rfl, p⟩ := z
    rw [z1, z2]
    exact kk r h' p)
theorem g_V3q {index a t ci : Nat} {fs : List Value} {q : vw_C} {cc' : ByteArray} {M' : GM} {a1 a2 a3 : Value} {P : Option Nat → AH → Prop} (hc : Ct E cc' M' [.ref a, a1, a2, a3] h (pQ (fun r h' => P r h')) noX) (hk : gCv cc' M' 3) (hlk : Cond.methodLink own index M'.y ∈ lw_all) (ha : h a = some (t, gO ci fs)) (hcl : gCl[ci]? = some q) (hq : q.1 = M'.y.cls) (hR : M'.rm.frames + 1 ≤ M.rm.frames ∧ 8 + (M'.nL + 11) + M'.rm.locals ≤ M.rm.locals) (hf : k + M'.rm.cells ≤ M.rm.cells ∧ n + M'.rm.slots ≤ M.rm.slots) (hcat : (st.map fun v => v.category).sum ≤ 8) (d : decode cc pc = .ok (.invokevirtual index, 3)) (kk : ∀ (r : Option Nat) (h' : AH), P r h' → V E cc own M Po Px X h' (k + M'.rm.cells) (n + M'.rm.slots) (pc + 3) ls (va_rf r :: st)) : V E cc own M Po Px X h k n pc ls (a3 :: a2 :: a1 :: .ref a :: st) := g_callV (av := [a1, a2, a3]) hc hk hlk ha hcl hq hR hf rfl hcat d (fun _ _ _ z => z.elim) (fun v h' z => by
    obtain ⟨r, rfl, p⟩ := z
    exact kk r h' p)
theorem g_V3qx {index a t ci : Nat} {fs : List Value} {q : vw_C} {cc' : ByteArray} {M' : GM} {a1 a2 a3 : Value} {P : Option Nat → AH → Prop} {Px' : String → Nat → AH → Prop} (hc : Ct E cc' M' [.ref a, a1, a2, a3] h (pQ (fun r h' => P r h')) Px') (hk : gCv cc' M' 3) (hlk : Cond.methodLink own index M'.y ∈ lw_all) (ha : h a = some (t, gO ci fs)) (hcl : gCl[ci]? = some q) (hq : q.1 = M'.y.cls) (hR : M'.rm.frames + 1 ≤ M.rm.frames ∧ 8 + (M'.nL + 11) + M'.rm.locals ≤ M.rm.locals) (hf : k + M'.rm.cells ≤ M.rm.cells ∧ n + M'.rm.slots ≤ M.rm.slots) (hcat : (st.map fun v => v.category).sum ≤ 8) (d : decode cc pc = .ok (.invokevirtual index, 3)) (kx : ∀ (C : String) (q : Nat) (h' : AH), Px' C q h' → VX E cc own M Po Px X h' (k + M'.rm.cells) (n + M'.rm.slots) pc ls C q) (kk : ∀ (r : Option Nat) (h' : AH), P r h' → V E cc own M Po Px X h' (k + M'.rm.cells) (n + M'.rm.slots) (pc + 3) ls (va_rf r :: st)) : V E cc own M Po Px X h k n pc ls (a3 :: a2 :: a1 :: .ref a :: st) := g_callV (av := [a1, a2, a3]) hc hk hlk ha hcl hq hR hf rfl hcat d kx (fun v h' z => by
    obtain ⟨r, rfl, p⟩ := z
    exact kk r h' p)
theorem g_V3v0 {index a t ci : Nat} {fs : List Value} {q : vw_C} {cc' : ByteArray} {M' : GM} {a1 a2 a3 : Value} {P : AH → Prop} (hc : Ct E cc' M' [.ref a, a1, a2, a3] h (pV (fun h' => P h')) noX) (hk : gCv cc' M' 3) (hlk : Cond.methodLink own index M'.y ∈ lw_all) (ha : h a = some (t, gO ci fs)) (hcl : gCl[ci]? = some q) (hq : q.1 = M'.y.cls) (hR : M'.rm.frames + 1 ≤ M.rm.frames ∧ 8 + (M'.nL + 11) + M'.rm.locals ≤ M.rm.locals) (hz : M'.rm.cells = 0 ∧ M'.rm.slots = 0) (hf : k ≤ M.rm.cells ∧ n ≤ M.rm.slots) (hcat : (st.map fun v => v.category).sum ≤ 8) (d : decode cc pc = .ok (.invokevirtual index, 3)) (kk : ∀ (h' : AH), P h' → V E cc own M Po Px X h' k n (pc + 3) ls st) : V E cc own M Po Px X h k n pc ls (a3 :: a2 :: a1 :: .ref a :: st) := by
  obtain ⟨z1, z2⟩ := hz
  refine g_callV (av := [a1, a2, a3]) hc hk hlk ha hcl hq hR (by rw [z1, z2]; exact hf) rfl hcat d (fun _ _ _ z => z.elim) (fun v h' z => by
    obtain ⟨rfl, p⟩ := z
    rw [z1, z2]
    exact kk h' p)
theorem g_V3v0x {index a t ci : Nat} {fs : List Value} {q : vw_C} {cc' : ByteArray} {M' : GM} {a1 a2 a3 : Value} {P : AH → Prop} {Px' : String → Nat → AH → Prop} (hc : Ct E cc' M' [.ref a, a1, a2, a3] h (pV (fun h' => P h')) Px') (hk : gCv cc' M' 3) (hlk : Cond.methodLink own index M'.y ∈ lw_all) (ha : h a = some (t, gO ci fs)) (hcl : gCl[ci]? = some q) (hq : q.1 = M'.y.cls) (hR : M'.rm.frames + 1 ≤ M.rm.frames ∧ 8 + (M'.nL + 11) + M'.rm.locals ≤ M.rm.locals) (hz : M'.rm.cells = 0 ∧ M'.rm.slots = 0) (hf : k ≤ M.rm.cells ∧ n ≤ M.rm.slots) (hcat : (st.map fun v => v.category).sum ≤ 8) (d : decode cc pc = .ok (.invokevirtual index, 3)) (kx : ∀ (C : String) (q : Nat) (h' : AH), Px' C q h' → VX E cc own M Po Px X h' k n pc ls C q) (kk : ∀ (h' : AH), P h' → V E cc own M Po Px X h' k n (pc + 3) ls st) : V E cc own M Po Px X h k n pc ls (a3 :: a2 :: a1 :: .ref a :: st) := by
  obtain ⟨z1, z2⟩ := hz
  refine g_callV (av := [a1, a2, a3]) hc hk hlk ha hcl hq hR (by rw [z1, z2]; exact hf) rfl hcat d (fun C q h' z => by rw [z1, z2]; exact kx C q h' z) (fun v h' z => by
    obtain ⟨rfl, p⟩ := z
    rw [z1, z2]
    exact kk h' p)
theorem g_V3v {index a t ci : Nat} {fs : List Value} {q : vw_C} {cc' : ByteArray} {M' : GM} {a1 a2 a3 : Value} {P : AH → Prop} (hc : Ct E cc' M' [.ref a, a1, a2, a3] h (pV (fun h' => P h')) noX) (hk : gCv cc' M' 3) (hlk : Cond.methodLink own index M'.y ∈ lw_all) (ha : h a = some (t, gO ci fs)) (hcl : gCl[ci]? = some q) (hq : q.1 = M'.y.cls) (hR : M'.rm.frames + 1 ≤ M.rm.frames ∧ 8 + (M'.nL + 11) + M'.rm.locals ≤ M.rm.locals) (hf : k + M'.rm.cells ≤ M.rm.cells ∧ n + M'.rm.slots ≤ M.rm.slots) (hcat : (st.map fun v => v.category).sum ≤ 8) (d : decode cc pc = .ok (.invokevirtual index, 3)) (kk : ∀ (h' : AH), P h' → V E cc own M Po Px X h' (k + M'.rm.cells) (n + M'.rm.slots) (pc + 3) ls st) : V E cc own M Po Px X h k n pc ls (a3 :: a2 :: a1 :: .ref a :: st) := g_callV (av := [a1, a2, a3]) hc hk hlk ha hcl hq hR hf rfl hcat d (fun _ _ _ z => z.elim) (fun v h' z => by
    obtain ⟨rfl, p⟩ := z
    exact kk h' p)
theorem g_V3vx {index a t ci : Nat} {fs : List Value} {q : vw_C} {cc' : ByteArray} {M' : GM} {a1 a2 a3 : Value} {P : AH → Prop} {Px' : String → Nat → AH → Prop} (hc : Ct E cc' M' [.ref a, a1, a2, a3] h (pV (fun h' => P h')) Px') (hk : gCv cc' M' 3) (hlk : Cond.methodLink own index M'.y ∈ lw_all) (ha : h a = some (t, gO ci fs)) (hcl : gCl[ci]? = some q) (hq : q.1 = M'.y.cls) (hR : M'.rm.frames + 1 ≤ M.rm.frames ∧ 8 + (M'.nL + 11) + M'.rm.locals ≤ M.rm.locals) (hf : k + M'.rm.cells ≤ M.rm.cells ∧ n + M'.rm.slots ≤ M.rm.slots) (hcat : (st.map fun v => v.category).sum ≤ 8) (d : decode cc pc = .ok (.invokevirtual index, 3)) (kx : ∀ (C : String) (q : Nat) (h' : AH), Px' C q h' → VX E cc own M Po Px X h' (k + M'.rm.cells) (n + M'.rm.slots) pc ls C q) (kk : ∀ (h' : AH), P h' → V E cc own M Po Px X h' (k + M'.rm.cells) (n + M'.rm.slots) (pc + 3) ls st) : V E cc own M Po Px X h k n pc ls (a3 :: a2 :: a1 :: .ref a :: st) := g_callV (av := [a1, a2, a3]) hc hk hlk ha hcl hq hR hf rfl hcat d kx (fun v h' z => by
    obtain ⟨rfl, p⟩ := z
    exact kk h' p)
theorem g_V4i0 {index a t ci : Nat} {fs : List Value} {q : vw_C} {cc' : ByteArray} {M' : GM} {a1 a2 a3 a4 : Value} {P : Int32 → AH → Prop} (hc : Ct E cc' M' [.ref a, a1, a2, a3, a4] h (pI (fun r h' => P r h')) noX) (hk : gCv cc' M' 4) (hlk : Cond.methodLink own index M'.y ∈ lw_all) (ha : h a = some (t, gO ci fs)) (hcl : gCl[ci]? = some q) (hq : q.1 = M'.y.cls) (hR : M'.rm.frames + 1 ≤ M.rm.frames ∧ 8 + (M'.nL + 11) + M'.rm.locals ≤ M.rm.locals) (hz : M'.rm.cells = 0 ∧ M'.rm.slots = 0) (hf : k ≤ M.rm.cells ∧ n ≤ M.rm.slots) (hcat : (st.map fun v => v.category).sum ≤ 8) (d : decode cc pc = .ok (.invokevirtual index, 3)) (kk : ∀ (r : Int32) (h' : AH), P r h' → V E cc own M Po Px X h' k n (pc + 3) ls (.int r :: st)) : V E cc own M Po Px X h k n pc ls (a4 :: a3 :: a2 :: a1 :: .ref a :: st) := by
  obtain ⟨z1, z2⟩ := hz
  refine g_callV (av := [a1, a2, a3, a4]) hc hk hlk ha hcl hq hR (by rw [z1, z2]; exact hf) rfl hcat d (fun _ _ _ z => z.elim) (fun v h' z => by
    obtain ⟨r, rfl, p⟩ := z
    rw [z1, z2]
    exact kk r h' p)
theorem g_V4i0x {index a t ci : Nat} {fs : List Value} {q : vw_C} {cc' : ByteArray} {M' : GM} {a1 a2 a3 a4 : Value} {P : Int32 → AH → Prop} {Px' : String → Nat → AH → Prop} (hc : Ct E cc' M' [.ref a, a1, a2, a3, a4] h (pI (fun r h' => P r h')) Px') (hk : gCv cc' M' 4) (hlk : Cond.methodLink own index M'.y ∈ lw_all) (ha : h a = some (t, gO ci fs)) (hcl : gCl[ci]? = some q) (hq : q.1 = M'.y.cls) (hR : M'.rm.frames + 1 ≤ M.rm.frames ∧ 8 + (M'.nL + 11) + M'.rm.locals ≤ M.rm.locals) (hz : M'.rm.cells = 0 ∧ M'.rm.slots = 0) (hf : k ≤ M.rm.cells ∧ n ≤ M.rm.slots) (hcat : (st.map fun v => v.category).sum ≤ 8) (d : decode cc pc = .ok (.invokevirtual index, 3)) (kx : ∀ (C : String) (q : Nat) (h' : AH), Px' C q h' → VX E cc own M Po Px X h' k n pc ls C q) (kk : ∀ (r : Int32) (h' : AH), P r h' → V E cc own M Po Px X h' k n (pc + 3) ls (.int r :: st)) : V E cc own M Po Px X h k n pc ls (a4 :: a3 :: a2 :: a1 :: .ref a :: st) := by
  obtain ⟨z1, z2⟩ := hz
  refine g_callV (av := [a1, a2, a3, a4]) hc hk hlk ha hcl hq hR (by rw [z1, z2]; exact hf) rfl hcat d (fun C q h' z => by rw [z1, z2]; exact kx C q h' z) (fun v h' z => by
    obtain ⟨r, rfl, p⟩ := z
    rw [z1, z2]
    exact kk r h' p)
theorem g_V4i {index a t ci : Nat} {fs : List Value} {q : vw_C} {cc' : ByteArray} {M' : GM} {a1 a2 a3 a4 : Value} {P : Int32 → AH → Prop} (hc : Ct E cc' M' [.ref a, a1, a2, a3, a4] h (pI (fun r h' => P r h')) noX) (hk : gCv cc' M' 4) (hlk : Cond.methodLink own index M'.y ∈ lw_all) (ha : h a = some (t, gO ci fs)) (hcl : gCl[ci]? = some q) (hq : q.1 = M'.y.cls) (hR : M'.rm.frames + 1 ≤ M.rm.frames ∧ 8 + (M'.nL + 11) + M'.rm.locals ≤ M.rm.locals) (hf : k + M'.rm.cells ≤ M.rm.cells ∧ n + M'.rm.slots ≤ M.rm.slots) (hcat : (st.map fun v => v.category).sum ≤ 8) (d : decode cc pc = .ok (.invokevirtual index, 3)) (kk : ∀ (r : Int32) (h' : AH), P r h' → V E cc own M Po Px X h' (k + M'.rm.cells) (n + M'.rm.slots) (pc + 3) ls (.int r :: st)) : V E cc own M Po Px X h k n pc ls (a4 :: a3 :: a2 :: a1 :: .ref a :: st) := g_callV (av := [a1, a2, a3, a4]) hc hk hlk ha hcl hq hR hf rfl hcat d (fun _ _ _ z => z.elim) (fun v h' z => by
    obtain ⟨r, rfl, p⟩ := z
    exact kk r h' p)
theorem g_V4ix {index a t ci : Nat} {fs : List Value} {q : vw_C} {cc' : ByteArray} {M' : GM} {a1 a2 a3 a4 : Value} {P : Int32 → AH → Prop} {Px' : String → Nat → AH → Prop} (hc : Ct E cc' M' [.ref a, a1, a2, a3, a4] h (pI (fun r h' => P r h')) Px') (hk : gCv cc' M' 4) (hlk : Cond.methodLink own index M'.y ∈ lw_all) (ha : h a = some (t, gO ci fs)) (hcl : gCl[ci]? = some q) (hq : q.1 = M'.y.cls) (hR : M'.rm.frames + 1 ≤ M.rm.frames ∧ 8 + (M'.nL + 11) + M'.rm.locals ≤ M.rm.locals) (hf : k + M'.rm.cells ≤ M.rm.cells ∧ n + M'.rm.slots ≤ M.rm.slots) (hcat : (st.map fun v => v.category).sum ≤ 8) (d : decode cc pc = .ok (.invokevirtual index, 3)) (kx : ∀ (C : String) (q : Nat) (h' : AH), Px' C q h' → VX E cc own M Po Px X h' (k + M'.rm.cells) (n + M'.rm.slots) pc ls C q) (kk : ∀ (r : Int32) (h' : AH), P r h' → V E cc own M Po Px X h' (k + M'.rm.cells) (n + M'.rm.slots) (pc + 3) ls (.int r :: st)) : V E cc own M Po Px X h k n pc ls (a4 :: a3 :: a2 :: a1 :: .ref a :: st) := g_callV (av := [a1, a2, a3, a4]) hc hk hlk ha hcl hq hR hf rfl hcat d kx (fun v h' z => by
    obtain ⟨r, rfl, p⟩ := z
    exact kk r h' p)
theorem g_V4n0 {index a t ci : Nat} {fs : List Value} {q : vw_C} {cc' : ByteArray} {M' : GM} {a1 a2 a3 a4 : Value} {P : Nat → AH → Prop} (hc : Ct E cc' M' [.ref a, a1, a2, a3, a4] h (pN (fun r h' => P r h')) noX) (hk : gCv cc' M' 4) (hlk : Cond.methodLink own index M'.y ∈ lw_all) (ha : h a = some (t, gO ci fs)) (hcl : gCl[ci]? = some q) (hq : q.1 = M'.y.cls) (hR : M'.rm.frames + 1 ≤ M.rm.frames ∧ 8 + (M'.nL + 11) + M'.rm.locals ≤ M.rm.locals) (hz : M'.rm.cells = 0 ∧ M'.rm.slots = 0) (hf : k ≤ M.rm.cells ∧ n ≤ M.rm.slots) (hcat : (st.map fun v => v.category).sum ≤ 8) (d : decode cc pc = .ok (.invokevirtual index, 3)) (kk : ∀ (r : Nat) (h' : AH), P r h' → V E cc own M Po Px X h' k n (pc + 3) ls (.int (nI r) :: st)) : V E cc own M Po Px X h k n pc ls (a4 :: a3 :: a2 :: a1 :: .ref a :: st) := by
  obtain ⟨z1, z2⟩ := hz
  refine g_callV (av := [a1, a2, a3, a4]) hc hk hlk ha hcl hq hR (by rw [z1, z2]; exact hf) rfl hcat d (fun _ _ _ z => z.elim) (fun v h' z => by
    obtain ⟨r, rfl, p⟩ := z
    rw [z1, z2]
    exact kk r h' p)
theorem g_V4n0x {index a t ci : Nat} {fs : List Value} {q : vw_C} {cc' : ByteArray} {M' : GM} {a1 a2 a3 a4 : Value} {P : Nat → AH → Prop} {Px' : String → Nat → AH → Prop} (hc : Ct E cc' M' [.ref a, a1, a2, a3, a4] h (pN (fun r h' => P r h')) Px') (hk : gCv cc' M' 4) (hlk : Cond.methodLink own index M'.y ∈ lw_all) (ha : h a = some (t, gO ci fs)) (hcl : gCl[ci]? = some q) (hq : q.1 = M'.y.cls) (hR : M'.rm.frames + 1 ≤ M.rm.frames ∧ 8 + (M'.nL + 11) + M'.rm.locals ≤ M.rm.locals) (hz : M'.rm.cells = 0 ∧ M'.rm.slots = 0) (hf : k ≤ M.rm.cells ∧ n ≤ M.rm.slots) (hcat : (st.map fun v => v.category).sum ≤ 8) (d : decode cc pc = .ok (.invokevirtual index, 3)) (kx : ∀ (C : String) (q : Nat) (h' : AH), Px' C q h' → VX E cc own M Po Px X h' k n pc ls C q) (kk : ∀ (r : Nat) (h' : AH), P r h' → V E cc own M Po Px X h' k n (pc + 3) ls (.int (nI r) :: st)) : V E cc own M Po Px X h k n pc ls (a4 :: a3 :: a2 :: a1 :: .ref a :: st) := by
  obtain ⟨z1, z2⟩ := hz
  refine g_callV (av := [a1, a2, a3, a4]) hc hk hlk ha hcl hq hR (by rw [z1, z2]; exact hf) rfl hcat d (fun C q h' z => by rw [z1, z2]; exact kx C q h' z) (fun v h' z => by
    obtain ⟨r, rfl, p⟩ := z
    rw [z1, z2]
    exact kk r h' p)
theorem g_V4n {index a t ci : Nat} {fs : List Value} {q : vw_C} {cc' : ByteArray} {M' : GM} {a1 a2 a3 a4 : Value} {P : Nat → AH → Prop} (hc : Ct E cc' M' [.ref a, a1, a2, a3, a4] h (pN (fun r h' => P r h')) noX) (hk : gCv cc' M' 4) (hlk : Cond.methodLink own index M'.y ∈ lw_all) (ha : h a = some (t, gO ci fs)) (hcl : gCl[ci]? = some q) (hq : q.1 = M'.y.cls) (hR : M'.rm.frames + 1 ≤ M.rm.frames ∧ 8 + (M'.nL + 11) + M'.rm.locals ≤ M.rm.locals) (hf : k + M'.rm.cells ≤ M.rm.cells ∧ n + M'.rm.slots ≤ M.rm.slots) (hcat : (st.map fun v => v.category).sum ≤ 8) (d : decode cc pc = .ok (.invokevirtual index, 3)) (kk : ∀ (r : Nat) (h' : AH), P r h' → V E cc own M Po Px X h' (k + M'.rm.cells) (n + M'.rm.slots) (pc + 3) ls (.int (nI r) :: st)) : V E cc own M Po Px X h k n pc ls (a4 :: a3 :: a2 :: a1 :: .ref a :: st) := g_callV (av := [a1, a2, a3, a4]) hc hk hlk ha hcl hq hR hf rfl hcat d (fun _ _ _ z => z.elim) (fun v h' z => by
    obtain ⟨r, rfl, p⟩ := z
    exact kk r h' p)
theorem g_V4nx {index a t ci : Nat} {fs : List Value} {q : vw_C} {cc' : ByteArray} {M' : GM} {a1 a2 a3 a4 : Value} {P : Nat → AH → Prop} {Px' : String → Nat → AH → Prop} (hc : Ct E cc' M' [.ref a, a1, a2, a3, a4] h (pN (fun r h' => P r h')) Px') (hk : gCv cc' M' 4) (hlk : Cond.methodLink own index M'.y ∈ lw_all) (ha : h a = some (t, gO ci fs)) (hcl : gCl[ci]? = some q) (hq : q.1 = M'.y.cls) (hR : M'.rm.frames + 1 ≤ M.rm.frames ∧ 8 + (M'.nL + 11) + M'.rm.locals ≤ M.rm.locals) (hf : k + M'.rm.cells ≤ M.rm.cells ∧ n + M'.rm.slots ≤ M.rm.slots) (hcat : (st.map fun v => v.category).sum ≤ 8) (d : decode cc pc = .ok (.invokevirtual index, 3)) (kx : ∀ (C : String) (q : Nat) (h' : AH), Px' C q h' → VX E cc own M Po Px X h' (k + M'.rm.cells) (n + M'.rm.slots) pc ls C q) (kk : ∀ (r : Nat) (h' : AH), P r h' → V E cc own M Po Px X h' (k + M'.rm.cells) (n + M'.rm.slots) (pc + 3) ls (.int (nI r) :: st)) : V E cc own M Po Px X h k n pc ls (a4 :: a3 :: a2 :: a1 :: .ref a :: st) := g_callV (av := [a1, a2, a3, a4]) hc hk hlk ha hcl hq hR hf rfl hcat d kx (fun v h' z => by
    obtain ⟨r, rfl, p⟩ := z
    exact kk r h' p)
theorem g_V4l0 {index a t ci : Nat} {fs : List Value} {q : vw_C} {cc' : ByteArray} {M' : GM} {a1 a2 a3 a4 : Value} {P : Int64 → AH → Prop} (hc : Ct E cc' M' [.ref a, a1, a2, a3, a4] h (pL (fun r h' => P r h')) noX) (hk : gCv cc' M' 4) (hlk : Cond.methodLink own index M'.y ∈ lw_all) (ha : h a = some (t, gO ci fs)) (hcl : gCl[ci]? = some q) (hq : q.1 = M'.y.cls) (hR : M'.rm.frames + 1 ≤ M.rm.frames ∧ 8 + (M'.nL + 11) + M'.rm.locals ≤ M.rm.locals) (hz : M'.rm.cells = 0 ∧ M'.rm.slots = 0) (hf : k ≤ M.rm.cells ∧ n ≤ M.rm.slots) (hcat : (st.map fun v => v.category).sum ≤ 8) (d : decode cc pc = .ok (.invokevirtual index, 3)) (kk : ∀ (r : Int64) (h' : AH), P r h' → V E cc own M Po Px X h' k n (pc + 3) ls (.long r :: st)) : V E cc own M Po Px X h k n pc ls (a4 :: a3 :: a2 :: a1 :: .ref a :: st) := by
  obtain ⟨z1, z2⟩ := hz
  refine g_callV (av := [a1, a2, a3, a4]) hc hk hlk ha hcl hq hR (by rw [z1, z2]; exact hf) rfl hcat d (fun _ _ _ z => z.elim) (fun v h' z => by
    obtain ⟨r, rfl, p⟩ := z
    rw [z1, z2]
    exact kk r h' p)
theorem g_V4l0x {index a t ci : Nat} {fs : List Value} {q : vw_C} {cc' : ByteArray} {M' : GM} {a1 a2 a3 a4 : Value} {P : Int64 → AH → Prop} {Px' : String → Nat → AH → Prop} (hc : Ct E cc' M' [.ref a, a1, a2, a3, a4] h (pL (fun r h' => P r h')) Px') (hk : gCv cc' M' 4) (hlk : Cond.methodLink own index M'.y ∈ lw_all) (ha : h a = some (t, gO ci fs)) (hcl : gCl[ci]? = some q) (hq : q.1 = M'.y.cls) (hR : M'.rm.frames + 1 ≤ M.rm.frames ∧ 8 + (M'.nL + 11) + M'.rm.locals ≤ M.rm.locals) (hz : M'.rm.cells = 0 ∧ M'.rm.slots = 0) (hf : k ≤ M.rm.cells ∧ n ≤ M.rm.slots) (hcat : (st.map fun v => v.category).sum ≤ 8) (d : decode cc pc = .ok (.invokevirtual index, 3)) (kx : ∀ (C : String) (q : Nat) (h' : AH), Px' C q h' → VX E cc own M Po Px X h' k n pc ls C q) (kk : ∀ (r : Int64) (h' : AH), P r h' → V E cc own M Po Px X h' k n (pc + 3) ls (.long r :: st)) : V E cc own M Po Px X h k n pc ls (a4 :: a3 :: a2 :: a1 :: .ref a :: st) := by
  obtain ⟨z1, z2⟩ := hz
  refine g_callV (av := [a1, a2, a3, a4]) hc hk hlk ha hcl hq hR (by rw [z1, z2]; exact hf) rfl hcat d (fun C q h' z => by rw [z1, z2]; exact kx C q h' z) (fun v h' z => by
    obtain ⟨r, rfl, p⟩ := z
    rw [z1, z2]
    exact kk r h' p)
theorem g_V4l {index a t ci : Nat} {fs : List Value} {q : vw_C} {cc' : ByteArray} {M' : GM} {a1 a2 a3 a4 : Value} {P : Int64 → AH → Prop} (hc : Ct E cc' M' [.ref a, a1, a2, a3, a4] h (pL (fun r h' => P r h')) noX) (hk : gCv cc' M' 4) (hlk : Cond.methodLink own index M'.y ∈ lw_all) (ha : h a = some (t, gO ci fs)) (hcl : gCl[ci]? = some q) (hq : q.1 = M'.y.cls) (hR : M'.rm.frames + 1 ≤ M.rm.frames ∧ 8 + (M'.nL + 11) + M'.rm.locals ≤ M.rm.locals) (hf : k + M'.rm.cells ≤ M.rm.cells ∧ n + M'.rm.slots ≤ M.rm.slots) (hcat : (st.map fun v => v.category).sum ≤ 8) (d : decode cc pc = .ok (.invokevirtual index, 3)) (kk : ∀ (r : Int64) (h' : AH), P r h' → V E cc own M Po Px X h' (k + M'.rm.cells) (n + M'.rm.slots) (pc + 3) ls (.long r :: st)) : V E cc own M Po Px X h k n pc ls (a4 :: a3 :: a2 :: a1 :: .ref a :: st) := g_callV (av := [a1, a2, a3, a4]) hc hk hlk ha hcl hq hR hf rfl hcat d (fun _ _ _ z => z.elim) (fun v h' z => by
    obtain ⟨r, rfl, p⟩ := z
    exact kk r h' p)
theorem g_V4lx {index a t ci : Nat} {fs : List Value} {q : vw_C} {cc' : ByteArray} {M' : GM} {a1 a2 a3 a4 : Value} {P : Int64 → AH → Prop} {Px' : String → Nat → AH → Prop} (hc : Ct E cc' M' [.ref a, a1, a2, a3, a4] h (pL (fun r h' => P r h')) Px') (hk : gCv cc' M' 4) (hlk : Cond.methodLink own index M'.y ∈ lw_all) (ha : h a = some (t, gO ci fs)) (hcl : gCl[ci]? = some q) (hq : q.1 = M'.y.cls) (hR : M'.rm.frames + 1 ≤ M.rm.frames ∧ 8 + (M'.nL + 11) + M'.rm.locals ≤ M.rm.locals) (hf : k + M'.rm.cells ≤ M.rm.cells ∧ n + M'.rm.slots ≤ M.rm.slots) (hcat : (st.map fun v => v.category).sum ≤ 8) (d : decode cc pc = .ok (.invokevirtual index, 3)) (kx : ∀ (C : String) (q : Nat) (h' : AH), Px' C q h' → VX E cc own M Po Px X h' (k + M'.rm.cells) (n + M'.rm.slots) pc ls C q) (kk : ∀ (r : Int64) (h' : AH), P r h' → V E cc own M Po Px X h' (k + M'.rm.cells) (n + M'.rm.slots) (pc + 3) ls (.long r :: st)) : V E cc own M Po Px X h k n pc ls (a4 :: a3 :: a2 :: a1 :: .ref a :: st) := g_callV (av := [a1, a2, a3, a4]) hc hk hlk ha hcl hq hR hf rfl hcat d kx (fun v h' z => by
    obtain ⟨r, rfl, p⟩ := z
    exact kk r h' p)
theorem g_V4r0 {index a t ci : Nat} {fs : List Value} {q : vw_C} {cc' : ByteArray} {M' : GM} {a1 a2 a3 a4 : Value} {P : Nat → AH → Prop} (hc : Ct E cc' M' [.ref a, a1, a2, a3, a4] h (pR (fun r h' => P r h')) noX) (hk : gCv cc' M' 4) (hlk : Cond.methodLink own index M'.y ∈ lw_all) (ha : h a = some (t, gO ci fs)) (hcl : gCl[ci]? = some q) (hq : q.1 = M'.y.cls) (hR : M'.rm.frames + 1 ≤ M.rm.frames ∧ 8 + (M'.nL + 11) + M'.rm.locals ≤ M.rm.locals) (hz : M'.rm.cells = 0 ∧ M'.rm.slots = 0) (hf : k ≤ M.rm.cells ∧ n ≤ M.rm.slots) (hcat : (st.map fun v => v.category).sum ≤ 8) (d : decode cc pc = .ok (.invokevirtual index, 3)) (kk : ∀ (r : Nat) (h' : AH), P r h' → V E cc own M Po Px X h' k n (pc + 3) ls (.ref r :: st)) : V E cc own M Po Px X h k n pc ls (a4 :: a3 :: a2 :: a1 :: .ref a :: st) := by
  obtain ⟨z1, z2⟩ := hz
  refine g_callV (av := [a1, a2, a3, a4]) hc hk hlk ha hcl hq hR (by rw [z1, z2]; exact hf) rfl hcat d (fun _ _ _ z => z.elim) (fun v h' z => by
    obtain ⟨r, rfl, p⟩ := z
    rw [z1, z2]
    exact kk r h' p)
theorem g_V4r0x {index a t ci : Nat} {fs : List Value} {q : vw_C} {cc' : ByteArray} {M' : GM} {a1 a2 a3 a4 : Value} {P : Nat → AH → Prop} {Px' : String → Nat → AH → Prop} (hc : Ct E cc' M' [.ref a, a1, a2, a3, a4] h (pR (fun r h' => P r h')) Px') (hk : gCv cc' M' 4) (hlk : Cond.methodLink own index M'.y ∈ lw_all) (ha : h a = some (t, gO ci fs)) (hcl : gCl[ci]? = some q) (hq : q.1 = M'.y.cls) (hR : M'.rm.frames + 1 ≤ M.rm.frames ∧ 8 + (M'.nL + 11) + M'.rm.locals ≤ M.rm.locals) (hz : M'.rm.cells = 0 ∧ M'.rm.slots = 0) (hf : k ≤ M.rm.cells ∧ n ≤ M.rm.slots) (hcat : (st.map fun v => v.category).sum ≤ 8) (d : decode cc pc = .ok (.invokevirtual index, 3)) (kx : ∀ (C : String) (q : Nat) (h' : AH), Px' C q h' → VX E cc own M Po Px X h' k n pc ls C q) (kk : ∀ (r : Nat) (h' : AH), P r h' → V E cc own M Po Px X h' k n (pc + 3) ls (.ref r :: st)) : V E cc own M Po Px X h k n pc ls (a4 :: a3 :: a2 :: a1 :: .ref a :: st) := by
  obtain ⟨z1, z2⟩ := hz
  refine g_callV (av := [a1, a2, a3, a4]) hc hk hlk ha hcl hq hR (by rw [z1, z2]; exact hf) rfl hcat d (fun C q h' z => by rw [z1, z2]; exact kx C q h' z) (fun v h' z => by
    obtain ⟨r, rfl, p⟩ := z
    rw [z1, z2]
    exact kk r h' p)
theorem g_V4r {index a t ci : Nat} {fs : List Value} {q : vw_C} {cc' : ByteArray} {M' : GM} {a1 a2 a3 a4 : Value} {P : Nat → AH → Prop} (hc : Ct E cc' M' [.ref a, a1, a2, a3, a4] h (pR (fun r h' => P r h')) noX) (hk : gCv cc' M' 4) (hlk : Cond.methodLink own index M'.y ∈ lw_all) (ha : h a = some (t, gO ci fs)) (hcl : gCl[ci]? = some q) (hq : q.1 = M'.y.cls) (hR : M'.rm.frames + 1 ≤ M.rm.frames ∧ 8 + (M'.nL + 11) + M'.rm.locals ≤ M.rm.locals) (hf : k + M'.rm.cells ≤ M.rm.cells ∧ n + M'.rm.slots ≤ M.rm.slots) (hcat : (st.map fun v => v.category).sum ≤ 8) (d : decode cc pc = .ok (.invokevirtual index, 3)) (kk : ∀ (r : Nat) (h' : AH), P r h' → V E cc own M Po Px X h' (k + M'.rm.cells) (n + M'.rm.slots) (pc + 3) ls (.ref r :: st)) : V E cc own M Po Px X h k n pc ls (a4 :: a3 :: a2 :: a1 :: .ref a :: st) := g_callV (av := [a1, a2, a3, a4]) hc hk hlk ha hcl hq hR hf rfl hcat d (fun _ _ _ z => z.elim) (fun v h' z => by
    obtain ⟨r, rfl, p⟩ := z
    exact kk r h' p)
theorem g_V4rx {index a t ci : Nat} {fs : List Value} {q : vw_C} {cc' : ByteArray} {M' : GM} {a1 a2 a3 a4 : Value} {P : Nat → AH → Prop} {Px' : String → Nat → AH → Prop} (hc : Ct E cc' M' [.ref a, a1, a2, a3, a4] h (pR (fun r h' => P r h')) Px') (hk : gCv cc' M' 4) (hlk : Cond.methodLink own index M'.y ∈ lw_all) (ha : h a = some (t, gO ci fs)) (hcl : gCl[ci]? = some q) (hq : q.1 = M'.y.cls) (hR : M'.rm.frames + 1 ≤ M.rm.frames ∧ 8 + (M'.nL + 11) + M'.rm.locals ≤ M.rm.locals) (hf : k + M'.rm.cells ≤ M.rm.cells ∧ n + M'.rm.slots ≤ M.rm.slots) (hcat : (st.map fun v => v.category).sum ≤ 8) (d : decode cc pc = .ok (.invokevirtual index, 3)) (kx : ∀ (C : String) (q : Nat) (h' : AH), Px' C q h' → VX E cc own M Po Px X h' (k + M'.rm.cells) (n + M'.rm.slots) pc ls C q) (kk : ∀ (r : Nat) (h' : AH), P r h' → V E cc own M Po Px X h' (k + M'.rm.cells) (n + M'.rm.slots) (pc + 3) ls (.ref r :: st)) : V E cc own M Po Px X h k n pc ls (a4 :: a3 :: a2 :: a1 :: .ref a :: st) := g_callV (av := [a1, a2, a3, a4]) hc hk hlk ha hcl hq hR hf rfl hcat d kx (fun v h' z => by
    obtain ⟨r, rfl, p⟩ := z
    exact kk r h' p)
theorem g_V4q0 {index a t ci : Nat} {fs : List Value} {q : vw_C} {cc' : ByteArray} {M' : GM} {a1 a2 a3 a4 : Value} {P : Option Nat → AH → Prop} (hc : Ct E cc' M' [.ref a, a1, a2, a3, a4] h (pQ (fun r h' => P r h')) noX) (hk : gCv cc' M' 4) (hlk : Cond.methodLink own index M'.y ∈ lw_all) (ha : h a = some (t, gO ci fs)) (hcl : gCl[ci]? = some q) (hq : q.1 = M'.y.cls) (hR : M'.rm.frames + 1 ≤ M.rm.frames ∧ 8 + (M'.nL + 11) + M'.rm.locals ≤ M.rm.locals) (hz : M'.rm.cells = 0 ∧ M'.rm.slots = 0) (hf : k ≤ M.rm.cells ∧ n ≤ M.rm.slots) (hcat : (st.map fun v => v.category).sum ≤ 8) (d : decode cc pc = .ok (.invokevirtual index, 3)) (kk : ∀ (r : Option Nat) (h' : AH), P r h' → V E cc own M Po Px X h' k n (pc + 3) ls (va_rf r :: st)) : V E cc own M Po Px X h k n pc ls (a4 :: a3 :: a2 :: a1 :: .ref a :: st) := by
  obtain ⟨z1, z2⟩ := hz
  refine g_callV (av := [a1, a2, a3, a4]) hc hk hlk ha hcl hq hR (by rw [z1, z2]; exact hf) rfl hcat d (fun _ _ _ z => z.elim) (fun v h' z => by
    obtain ⟨r, rfl, p⟩ := z
    rw [z1, z2]
    exact kk r h' p)
theorem g_V4q0x {index a t ci : Nat} {fs : List Value} {q : vw_C} {cc' : ByteArray} {M' : GM} {a1 a2 a3 a4 : Value} {P : Option Nat → AH → Prop} {Px' : String → Nat → AH → Prop} (hc : Ct E cc' M' [.ref a, a1, a2, a3, a4] h (pQ (fun r h' => P r h')) Px') (hk : gCv cc' M' 4) (hlk : Cond.methodLink own index M'.y ∈ lw_all) (ha : h a = some (t, gO ci fs)) (hcl : gCl[ci]? = some q) (hq : q.1 = M'.y.cls) (hR : M'.rm.frames + 1 ≤ M.rm.frames ∧ 8 + (M'.nL + 11) + M'.rm.locals ≤ M.rm.locals) (hz : M'.rm.cells = 0 ∧ M'.rm.slots = 0) (hf : k ≤ M.rm.cells ∧ n ≤ M.rm.slots) (hcat : (st.map fun v => v.category).sum ≤ 8) (d : decode cc pc = .ok (.invokevirtual index, 3)) (kx : ∀ (C : String) (q : Nat) (h' : AH), Px' C q h' → VX E cc own M Po Px X h' k n pc ls C q) (kk : ∀ (r : Option Nat) (h' : AH), P r h' → V E cc own M Po Px X h' k n (pc + 3) ls (va_rf r :: st)) : V E cc own M Po Px X h k n pc ls (a4 :: a3 :: a2 :: a1 :: .ref a :: st) := by
  obtain ⟨z1, z2⟩ := hz
  refine g_callV (av := [a1, a2, a3, a4]) hc hk hlk ha hcl hq hR (by rw [z1, z2]; exact hf) rfl hcat d (fun C q h' z => by rw [z1, z2]; exact kx C q h' z) (fun v h' z => by
    obtain ⟨r, rfl, p⟩ := z
    rw [z1, z2]
    exact kk r h' p)
theorem g_V4q {index a t ci : Nat} {fs : List Value} {q : vw_C} {cc' : ByteArray} {M' : GM} {a1 a2 a3 a4 : Value} {P : Option Nat → AH → Prop} (hc : Ct E cc' M' [.ref a, a1, a2, a3, a4] h (pQ (fun r h' => P r h')) noX) (hk : gCv cc' M' 4) (hlk : Cond.methodLink own index M'.y ∈ lw_all) (ha : h a = some (t, gO ci fs)) (hcl : gCl[ci]? = some q) (hq : q.1 = M'.y.cls) (hR : M'.rm.frames + 1 ≤ M.rm.frames ∧ 8 + (M'.nL + 11) + M'.rm.locals ≤ M.rm.locals) (hf : k + M'.rm.cells ≤ M.rm.cells ∧ n + M'.rm.slots ≤ M.rm.slots) (hcat : (st.map fun v => v.category).sum ≤ 8) (d : decode cc pc = .ok (.invokevirtual index, 3)) (kk : ∀ (r : Option Nat) (h' : AH), P r h' → V E cc own M Po Px X h' (k + M'.rm.cells) (n + M'.rm.slots) (pc + 3) ls (va_rf r :: st)) : V E cc own M Po Px X h k n pc ls (a4 :: a3 :: a2 :: a1 :: .ref a :: st) := g_callV (av := [a1, a2, a3, a4]) hc hk hlk ha hcl hq hR hf rfl hcat d (fun _ _ _ z => z.elim) (fun v h' z => by
    obtain ⟨r, rfl, p⟩ := z
    exact kk r h' p)
theorem g_V4qx {index a t ci : Nat} {fs : List Value} {q : vw_C} {cc' : ByteArray} {M' : GM} {a1 a2 a3 a4 : Value} {P : Option Nat → AH → Prop} {Px' : String → Nat → AH → Prop} (hc : Ct E cc' M' [.ref a, a1, a2, a3, a4] h (pQ (fun r h' => P r h')) Px') (hk : gCv cc' M' 4) (hlk : Cond.methodLink own index M'.y ∈ lw_all) (ha : h a = some (t, gO ci fs)) (hcl : gCl[ci]? = some q) (hq : q.1 = M'.y.cls) (hR : M'.rm.frames + 1 ≤ M.rm.frames ∧ 8 + (M'.nL + 11) + M'.rm.locals ≤ M.rm.locals) (hf : k + M'.rm.cells ≤ M.rm.cells ∧ n + M'.rm.slots ≤ M.rm.slots) (hcat : (st.map fun v => v.category).sum ≤ 8) (d : decode cc pc = .ok (.invokevirtual index, 3)) (kx : ∀ (C : String) (q : Nat) (h' : AH), Px' C q h' → VX E cc own M Po Px X h' (k + M'.rm.cells) (n + M'.rm.slots) pc ls C q) (kk : ∀ (r : Option Nat) (h' : AH), P r h' → V E cc own M Po Px X h' (k + M'.rm.cells) (n + M'.rm.slots) (pc + 3) ls (va_rf r :: st)) : V E cc own M Po Px X h k n pc ls (a4 :: a3 :: a2 :: a1 :: .ref a :: st) := g_callV (av := [a1, a2, a3, a4]) hc hk hlk ha hcl hq hR hf rfl hcat d kx (fun v h' z => by
    obtain ⟨r, rfl, p⟩ := z
    exact kk r h' p)
theorem g_V4v0 {index a t ci : Nat} {fs : List Value} {q : vw_C} {cc' : ByteArray} {M' : GM} {a1 a2 a3 a4 : Value} {P : AH → Prop} (hc : Ct E cc' M' [.ref a, a1, a2, a3, a4] h (pV (fun h' => P h')) noX) (hk : gCv cc' M' 4) (hlk : Cond.methodLink own index M'.y ∈ lw_all) (ha : h a = some (t, gO ci fs)) (hcl : gCl[ci]? = some q) (hq : q.1 = M'.y.cls) (hR : M'.rm.frames + 1 ≤ M.rm.frames ∧ 8 + (M'.nL + 11) + M'.rm.locals ≤ M.rm.locals) (hz : M'.rm.cells = 0 ∧ M'.rm.slots = 0) (hf : k ≤ M.rm.cells ∧ n ≤ M.rm.slots) (hcat : (st.map fun v => v.category).sum ≤ 8) (d : decode cc pc = .ok (.invokevirtual index, 3)) (kk : ∀ (h' : AH), P h' → V E cc own M Po Px X h' k n (pc + 3) ls st) : V E cc own M Po Px X h k n pc ls (a4 :: a3 :: a2 :: a1 :: .ref a :: st) := by
  obtain ⟨z1, z2⟩ := hz
  refine g_callV (av := [a1, a2, a3, a4]) hc hk hlk ha hcl hq hR (by rw [z1, z2]; exact hf) rfl hcat d (fun _ _ _ z => z.elim) (fun v h' z => by
    obtain ⟨rfl, p⟩ := z
    rw [z1, z2]
    exact kk h' p)
theorem g_V4v0x {index a t ci : Nat} {fs : List Value} {q : vw_C} {cc' : ByteArray} {M' : GM} {a1 a2 a3 a4 : Value} {P : AH → Prop} {Px' : String → Nat → AH → Prop} (hc : Ct E cc' M' [.ref a, a1, a2, a3, a4] h (pV (fun h' => P h')) Px') (hk : gCv cc' M' 4) (hlk : Cond.methodLink own index M'.y ∈ lw_all) (ha : h a = some (t, gO ci fs)) (hcl : gCl[ci]? = some q) (hq : q.1 = M'.y.cls) (hR : M'.rm.frames + 1 ≤ M.rm.frames ∧ 8 + (M'.nL + 11) + M'.rm.locals ≤ M.rm.locals) (hz : M'.rm.cells = 0 ∧ M'.rm.slots = 0) (hf : k ≤ M.rm.cells ∧ n ≤ M.rm.slots) (hcat : (st.map fun v => v.category).sum ≤ 8) (d : decode cc pc = .ok (.invokevirtual index, 3)) (kx : ∀ (C : String) (q : Nat) (h' : AH), Px' C q h' → VX E cc own M Po Px X h' k n pc ls C q) (kk : ∀ (h' : AH), P h' → V E cc own M Po Px X h' k n (pc + 3) ls st) : V E cc own M Po Px X h k n pc ls (a4 :: a3 :: a2 :: a1 :: .ref a :: st) := by
  obtain ⟨z1, z2⟩ := hz
  refine g_callV (av := [a1, a2, a3, a4]) hc hk hlk ha hcl hq hR (by rw [z1, z2]; exact hf) rfl hcat d (fun C q h' z => by rw [z1, z2]; exact kx C q h' z) (fun v h' z => by
    obtain ⟨rfl, p⟩ := z
    rw [z1, z2]
    exact kk h' p)
theorem g_V4v {index a t ci : Nat} {fs : List Value} {q : vw_C} {cc' : ByteArray} {M' : GM} {a1 a2 a3 a4 : Value} {P : AH → Prop} (hc : Ct E cc' M' [.ref a, a1, a2, a3, a4] h (pV (fun h' => P h')) noX) (hk : gCv cc' M' 4) (hlk : Cond.methodLink own index M'.y ∈ lw_all) (ha : h a = some (t, gO ci fs)) (hcl : gCl[ci]? = some q) (hq : q.1 = M'.y.cls) (hR : M'.rm.frames + 1 ≤ M.rm.frames ∧ 8 + (M'.nL + 11) + M'.rm.locals ≤ M.rm.locals) (hf : k + M'.rm.cells ≤ M.rm.cells ∧ n + M'.rm.slots ≤ M.rm.slots) (hcat : (st.map fun v => v.category).sum ≤ 8) (d : decode cc pc = .ok (.invokevirtual index, 3)) (kk : ∀ (h' : AH), P h' → V E cc own M Po Px X h' (k + M'.rm.cells) (n + M'.rm.slots) (pc + 3) ls st) : V E cc own M Po Px X h k n pc ls (a4 :: a3 :: a2 :: a1 :: .ref a :: st) := g_callV (av := [a1, a2, a3, a4]) hc hk hlk ha hcl hq hR hf rfl hcat d (fun _ _ _ z => z.elim) (fun v h' z => by
    obtain ⟨rfl, p⟩ := z
    exact kk h' p)
theorem g_V4vx {index a t ci : Nat} {fs : List Value} {q : vw_C} {cc' : ByteArray} {M' : GM} {a1 a2 a3 a4 : Value} {P : AH → Prop} {Px' : String → Nat → AH → Prop} (hc : Ct E cc' M' [.ref a, a1, a2, a3, a4] h (pV (fun h' => P h')) Px') (hk : gCv cc' M' 4) (hlk : Cond.methodLink own index M'.y ∈ lw_all) (ha : h a = some (t, gO ci fs)) (hcl : gCl[ci]? = some q) (hq : q.1 = M'.y.cls) (hR : M'.rm.frames + 1 ≤ M.rm.frames ∧ 8 + (M'.nL + 11) + M'.rm.locals ≤ M.rm.locals) (hf : k + M'.rm.cells ≤ M.rm.cells ∧ n + M'.rm.slots ≤ M.rm.slots) (hcat : (st.map fun v => v.category).sum ≤ 8) (d : decode cc pc = .ok (.invokevirtual index, 3)) (kx : ∀ (C : String) (q : Nat) (h' : AH), Px' C q h' → VX E cc own M Po Px X h' (k + M'.rm.cells) (n + M'.rm.slots) pc ls C q) (kk : ∀ (h' : AH), P h' → V E cc own M Po Px X h' (k + M'.rm.cells) (n + M'.rm.slots) (pc + 3) ls st) : V E cc own M Po Px X h k n pc ls (a4 :: a3 :: a2 :: a1 :: .ref a :: st) := g_callV (av := [a1, a2, a3, a4]) hc hk hlk ha hcl hq hR hf rfl hcat d kx (fun v h' z => by
    obtain ⟨rfl, p⟩ := z
    exact kk h' p)
theorem g_V5i0 {index a t ci : Nat} {fs : List Value} {q : vw_C} {cc' : ByteArray} {M' : GM} {a1 a2 a3 a4 a5 : Value} {P : Int32 → AH → Prop} (hc : Ct E cc' M' [.ref a, a1, a2, a3, a4, a5] h (pI (fun r h' => P r h')) noX) (hk : gCv cc' M' 5) (hlk : Cond.methodLink own index M'.y ∈ lw_all) (ha : h a = some (t, gO ci fs)) (hcl : gCl[ci]? = some q) (hq : q.1 = M'.y.cls) (hR : M'.rm.frames + 1 ≤ M.rm.frames ∧ 8 + (M'.nL + 11) + M'.rm.locals ≤ M.rm.locals) (hz : M'.rm.cells = 0 ∧ M'.rm.slots = 0) (hf : k ≤ M.rm.cells ∧ n ≤ M.rm.slots) (hcat : (st.map fun v => v.category).sum ≤ 8) (d : decode cc pc = .ok (.invokevirtual index, 3)) (kk : ∀ (r : Int32) (h' : AH), P r h' → V E cc own M Po Px X h' k n (pc + 3) ls (.int r :: st)) : V E cc own M Po Px X h k n pc ls (a5 :: a4 :: a3 :: a2 :: a1 :: .ref a :: st) := by
  obtain ⟨z1, z2⟩ := hz
  refine g_callV (av := [a1, a2, a3, a4, a5]) hc hk hlk ha hcl hq hR (by rw [z1, z2]; exact hf) rfl hcat d (fun _ _ _ z => z.elim) (fun v h' z => by
    obtain ⟨r, rfl, p⟩ := z
    rw [z1, z2]
    exact kk r h' p)
theorem g_V5i0x {index a t ci : Nat} {fs : List Value} {q : vw_C} {cc' : ByteArray} {M' : GM} {a1 a2 a3 a4 a5 : Value} {P : Int32 → AH → Prop} {Px' : String → Nat → AH → Prop} (hc : Ct E cc' M' [.ref a, a1, a2, a3, a4, a5] h (pI (fun r h' => P r h')) Px') (hk : gCv cc' M' 5) (hlk : Cond.methodLink own index M'.y ∈ lw_all) (ha : h a = some (t, gO ci fs)) (hcl : gCl[ci]? = some q) (hq : q.1 = M'.y.cls) (hR : M'.rm.frames + 1 ≤ M.rm.frames ∧ 8 + (M'.nL + 11) + M'.rm.locals ≤ M.rm.locals) (hz : M'.rm.cells = 0 ∧ M'.rm.slots = 0) (hf : k ≤ M.rm.cells ∧ n ≤ M.rm.slots) (hcat : (st.map fun v => v.category).sum ≤ 8) (d : decode cc pc = .ok (.invokevirtual index, 3)) (kx : ∀ (C : String) (q : Nat) (h' : AH), Px' C q h' → VX E cc own M Po Px X h' k n pc ls C q) (kk : ∀ (r : Int32) (h' : AH), P r h' → V E cc own M Po Px X h' k n (pc + 3) ls (.int r :: st)) : V E cc own M Po Px X h k n pc ls (a5 :: a4 :: a3 :: a2 :: a1 :: .ref a :: st) := by
  obtain ⟨z1, z2⟩ := hz
  refine g_callV (av := [a1, a2, a3, a4, a5]) hc hk hlk ha hcl hq hR (by rw [z1, z2]; exact hf) rfl hcat d (fun C q h' z => by rw [z1, z2]; exact kx C q h' z) (fun v h' z => by
    obtain ⟨r, rfl, p⟩ := z
    rw [z1, z2]
    exact kk r h' p)
theorem g_V5i {index a t ci : Nat} {fs : List Value} {q : vw_C} {cc' : ByteArray} {M' : GM} {a1 a2 a3 a4 a5 : Value} {P : Int32 → AH → Prop} (hc : Ct E cc' M' [.ref a, a1, a2, a3, a4, a5] h (pI (fun r h' => P r h')) noX) (hk : gCv cc' M' 5) (hlk : Cond.methodLink own index M'.y ∈ lw_all) (ha : h a = some (t, gO ci fs)) (hcl : gCl[ci]? = some q) (hq : q.1 = M'.y.cls) (hR : M'.rm.frames + 1 ≤ M.rm.frames ∧ 8 + (M'.nL + 11) + M'.rm.locals ≤ M.rm.locals) (hf : k + M'.rm.cells ≤ M.rm.cells ∧ n + M'.rm.slots ≤ M.rm.slots) (hcat : (st.map fun v => v.category).sum ≤ 8) (d : decode cc pc = .ok (.invokevirtual index, 3)) (kk : ∀ (r : Int32) (h' : AH), P r h' → V E cc own M Po Px X h' (k + M'.rm.cells) (n + M'.rm.slots) (pc + 3) ls (.int r :: st)) : V E cc own M Po Px X h k n pc ls (a5 :: a4 :: a3 :: a2 :: a1 :: .ref a :: st) := g_callV (av := [a1, a2, a3, a4, a5]) hc hk hlk ha hcl hq hR hf rfl hcat d (fun _ _ _ z => z.elim) (fun v h' z => by
    obtain ⟨r, rfl, p⟩ := z
    exact kk r h' p)
theorem g_V5ix {index a t ci : Nat} {fs : List Value} {q : vw_C} {cc' : ByteArray} {M' : GM} {a1 a2 a3 a4 a5 : Value} {P : Int32 → AH → Prop} {Px' : String → Nat → AH → Prop} (hc : Ct E cc' M' [.ref a, a1, a2, a3, a4, a5] h (pI (fun r h' => P r h')) Px') (hk : gCv cc' M' 5) (hlk : Cond.methodLink own index M'.y ∈ lw_all) (ha : h a = some (t, gO ci fs)) (hcl : gCl[ci]? = some q) (hq : q.1 = M'.y.cls) (hR : M'.rm.frames + 1 ≤ M.rm.frames ∧ 8 + (M'.nL + 11) + M'.rm.locals ≤ M.rm.locals) (hf : k + M'.rm.cells ≤ M.rm.cells ∧ n + M'.rm.slots ≤ M.rm.slots) (hcat : (st.map fun v => v.category).sum ≤ 8) (d : decode cc pc = .ok (.invokevirtual index, 3)) (kx : ∀ (C : String) (q : Nat) (h' : AH), Px' C q h' → VX E cc own M Po Px X h' (k + M'.rm.cells) (n + M'.rm.slots) pc ls C q) (kk : ∀ (r : Int32) (h' : AH), P r h' → V E cc own M Po Px X h' (k + M'.rm.cells) (n + M'.rm.slots) (pc + 3) ls (.int r :: st)) : V E cc own M Po Px X h k n pc ls (a5 :: a4 :: a3 :: a2 :: a1 :: .ref a :: st) := g_callV (av := [a1, a2, a3, a4, a5]) hc hk hlk ha hcl hq hR hf rfl hcat d kx (fun v h' z => by
    obtain ⟨r, rfl, p⟩ := z
    exact kk r h' p)
theorem g_V5n0 {index a t ci : Nat} {fs : List Value} {q : vw_C} {cc' : ByteArray} {M' : GM} {a1 a2 a3 a4 a5 : Value} {P : Nat → AH → Prop} (hc : Ct E cc' M' [.ref a, a1, a2, a3, a4, a5] h (pN (fun r h' => P r h')) noX) (hk : gCv cc' M' 5) (hlk : Cond.methodLink own index M'.y ∈ lw_all) (ha : h a = some (t, gO ci fs)) (hcl : gCl[ci]? = some q) (hq : q.1 = M'.y.cls) (hR : M'.rm.frames + 1 ≤ M.rm.frames ∧ 8 + (M'.nL + 11) + M'.rm.locals ≤ M.rm.locals) (hz : M'.rm.cells = 0 ∧ M'.rm.slots = 0) (hf : k ≤ M.rm.cells ∧ n ≤ M.rm.slots) (hcat : (st.map fun v => v.category).sum ≤ 8) (d : decode cc pc = .ok (.invokevirtual index, 3)) (kk : ∀ (r : Nat) (h' : AH), P r h' → V E cc own M Po Px X h' k n (pc + 3) ls (.int (nI r) :: st)) : V E cc own M Po Px X h k n pc ls (a5 :: a4 :: a3 :: a2 :: a1 :: .ref a :: st) := by
  obtain ⟨z1, z2⟩ := hz
  refine g_callV (av := [a1, a2, a3, a4, a5]) hc hk hlk ha hcl hq hR (by rw [z1, z2]; exact hf) rfl hcat d (fun _ _ _ z => z.elim) (fun v h' z => by
    obtain ⟨r, rfl, p⟩ := z
    rw [z1, z2]
    exact kk r h' p)
theorem g_V5n0x {index a t ci : Nat} {fs : List Value} {q : vw_C} {cc' : ByteArray} {M' : GM} {a1 a2 a3 a4 a5 : Value} {P : Nat → AH → Prop} {Px' : String → Nat → AH → Prop} (hc : Ct E cc' M' [.ref a, a1, a2, a3, a4, a5] h (pN (fun r h' => P r h')) Px') (hk : gCv cc' M' 5) (hlk : Cond.methodLink own index M'.y ∈ lw_all) (ha : h a = some (t, gO ci fs)) (hcl : gCl[ci]? = some q) (hq : q.1 = M'.y.cls) (hR : M'.rm.frames + 1 ≤ M.rm.frames ∧ 8 + (M'.nL + 11) + M'.rm.locals ≤ M.rm.locals) (hz : M'.rm.cells = 0 ∧ M'.rm.slots = 0) (hf : k ≤ M.rm.cells ∧ n ≤ M.rm.slots) (hcat : (st.map fun v => v.category).sum ≤ 8) (d : decode cc pc = .ok (.invokevirtual index, 3)) (kx : ∀ (C : String) (q : Nat) (h' : AH), Px' C q h' → VX E cc own M Po Px X h' k n pc ls C q) (kk : ∀ (r : Nat) (h' : AH), P r h' → V E cc own M Po Px X h' k n (pc + 3) ls (.int (nI r) :: st)) : V E cc own M Po Px X h k n pc ls (a5 :: a4 :: a3 :: a2 :: a1 :: .ref a :: st) := by
  obtain ⟨z1, z2⟩ := hz
  refine g_callV (av := [a1, a2, a3, a4, a5]) hc hk hlk ha hcl hq hR (by rw [z1, z2]; exact hf) rfl hcat d (fun C q h' z => by rw [z1, z2]; exact kx C q h' z) (fun v h' z => by
    obtain ⟨r, rfl, p⟩ := z
    rw [z1, z2]
    exact kk r h' p)
theorem g_V5n {index a t ci : Nat} {fs : List Value} {q : vw_C} {cc' : ByteArray} {M' : GM} {a1 a2 a3 a4 a5 : Value} {P : Nat → AH → Prop} (hc : Ct E cc' M' [.ref a, a1, a2, a3, a4, a5] h (pN (fun r h' => P r h')) noX) (hk : gCv cc' M' 5) (hlk : Cond.methodLink own index M'.y ∈ lw_all) (ha : h a = some (t, gO ci fs)) (hcl : gCl[ci]? = some q) (hq : q.1 = M'.y.cls) (hR : M'.rm.frames + 1 ≤ M.rm.frames ∧ 8 + (M'.nL + 11) + M'.rm.locals ≤ M.rm.locals) (hf : k + M'.rm.cells ≤ M.rm.cells ∧ n + M'.rm.slots ≤ M.rm.slots) (hcat : (st.map fun v => v.category).sum ≤ 8) (d : decode cc pc = .ok (.invokevirtual index, 3)) (kk : ∀ (r : Nat) (h' : AH), P r h' → V E cc own M Po Px X h' (k + M'.rm.cells) (n + M'.rm.slots) (pc + 3) ls (.int (nI r) :: st)) : V E cc own M Po Px X h k n pc ls (a5 :: a4 :: a3 :: a2 :: a1 :: .ref a :: st) := g_callV (av := [a1, a2, a3, a4, a5]) hc hk hlk ha hcl hq hR hf rfl hcat d (fun _ _ _ z => z.elim) (fun v h' z => by
    obtain ⟨r, rfl, p⟩ := z
    exact kk r h' p)
theorem g_V5nx {index a t ci : Nat} {fs : List Value} {q : vw_C} {cc' : ByteArray} {M' : GM} {a1 a2 a3 a4 a5 : Value} {P : Nat → AH → Prop} {Px' : String → Nat → AH → Prop} (hc : Ct E cc' M' [.ref a, a1, a2, a3, a4, a5] h (pN (fun r h' => P r h')) Px') (hk : gCv cc' M' 5) (hlk : Cond.methodLink own index M'.y ∈ lw_all) (ha : h a = some (t, gO ci fs)) (hcl : gCl[ci]? = some q) (hq : q.1 = M'.y.cls) (hR : M'.rm.frames + 1 ≤ M.rm.frames ∧ 8 + (M'.nL + 11) + M'.rm.locals ≤ M.rm.locals) (hf : k + M'.rm.cells ≤ M.rm.cells ∧ n + M'.rm.slots ≤ M.rm.slots) (hcat : (st.map fun v => v.category).sum ≤ 8) (d : decode cc pc = .ok (.invokevirtual index, 3)) (kx : ∀ (C : String) (q : Nat) (h' : AH), Px' C q h' → VX E cc own M Po Px X h' (k + M'.rm.cells) (n + M'.rm.slots) pc ls C q) (kk : ∀ (r : Nat) (h' : AH), P r h' → V E cc own M Po Px X h' (k + M'.rm.cells) (n + M'.rm.slots) (pc + 3) ls (.int (nI r) :: st)) : V E cc own M Po Px X h k n pc ls (a5 :: a4 :: a3 :: a2 :: a1 :: .ref a :: st) := g_callV (av := [a1, a2, a3, a4, a5]) hc hk hlk ha hcl hq hR hf rfl hcat d kx (fun v h' z => by
    obtain ⟨r, rfl, p⟩ := z
    exact kk r h' p)
theorem g_V5l0 {index a t ci : Nat} {fs : List Value} {q : vw_C} {cc' : ByteArray} {M' : GM} {a1 a2 a3 a4 a5 : Value} {P : Int64 → AH → Prop} (hc : Ct E cc' M' [.ref a, a1, a2, a3, a4, a5] h (pL (fun r h' => P r h')) noX) (hk : gCv cc' M' 5) (hlk : Cond.methodLink own index M'.y ∈ lw_all) (ha : h a = some (t, gO ci fs)) (hcl : gCl[ci]? = some q) (hq : q.1 = M'.y.cls) (hR : M'.rm.frames + 1 ≤ M.rm.frames ∧ 8 + (M'.nL + 11) + M'.rm.locals ≤ M.rm.locals) (hz : M'.rm.cells = 0 ∧ M'.rm.slots = 0) (hf : k ≤ M.rm.cells ∧ n ≤ M.rm.slots) (hcat : (st.map fun v => v.category).sum ≤ 8) (d : decode cc pc = .ok (.invokevirtual index, 3)) (kk : ∀ (r : Int64) (h' : AH), P r h' → V E cc own M Po Px X h' k n (pc + 3) ls (.long r :: st)) : V E cc own M Po Px X h k n pc ls (a5 :: a4 :: a3 :: a2 :: a1 :: .ref a :: st) := by
  obtain ⟨z1, z2⟩ := hz
  refine g_callV (av := [a1, a2, a3, a4, a5]) hc hk hlk ha hcl hq hR (by rw [z1, z2]; exact hf) rfl hcat d (fun _ _ _ z => z.elim) (fun v h' z => by
    obtain ⟨r, rfl, p⟩ := z
    rw [z1, z2]
    exact kk r h' p)
theorem g_V5l0x {index a t ci : Nat} {fs : List Value} {q : vw_C} {cc' : ByteArray} {M' : GM} {a1 a2 a3 a4 a5 : Value} {P : Int64 → AH → Prop} {Px' : String → Nat → AH → Prop} (hc : Ct E cc' M' [.ref a, a1, a2, a3, a4, a5] h (pL (fun r h' => P r h')) Px') (hk : gCv cc' M' 5) (hlk : Cond.methodLink own index M'.y ∈ lw_all) (ha : h a = some (t, gO ci fs)) (hcl : gCl[ci]? = some q) (hq : q.1 = M'.y.cls) (hR : M'.rm.frames + 1 ≤ M.rm.frames ∧ 8 + (M'.nL + 11) + M'.rm.locals ≤ M.rm.locals) (hz : M'.rm.cells = 0 ∧ M'.rm.slots = 0) (hf : k ≤ M.rm.cells ∧ n ≤ M.rm.slots) (hcat : (st.map fun v => v.category).sum ≤ 8) (d : decode cc pc = .ok (.invokevirtual index, 3)) (kx : ∀ (C : String) (q : Nat) (h' : AH), Px' C q h' → VX E cc own M Po Px X h' k n pc ls C q) (kk : ∀ (r : Int64) (h' : AH), P r h' → V E cc own M Po Px X h' k n (pc + 3) ls (.long r :: st)) : V E cc own M Po Px X h k n pc ls (a5 :: a4 :: a3 :: a2 :: a1 :: .ref a :: st) := by
  obtain ⟨z1, z2⟩ := hz
  refine g_callV (av := [a1, a2, a3, a4, a5]) hc hk hlk ha hcl hq hR (by rw [z1, z2]; exact hf) rfl hcat d (fun C q h' z => by rw [z1, z2]; exact kx C q h' z) (fun v h' z => by
    obtain ⟨r, rfl, p⟩ := z
    rw [z1, z2]
    exact kk r h' p)
theorem g_V5l {index a t ci : Nat} {fs : List Value} {q : vw_C} {cc' : ByteArray} {M' : GM} {a1 a2 a3 a4 a5 : Value} {P : Int64 → AH → Prop} (hc : Ct E cc' M' [.ref a, a1, a2, a3, a4, a5] h (pL (fun r h' => P r h')) noX) (hk : gCv cc' M' 5) (hlk : Cond.methodLink own index M'.y ∈ lw_all) (ha : h a = some (t, gO ci fs)) (hcl : gCl[ci]? = some q) (hq : q.1 = M'.y.cls) (hR : M'.rm.frames + 1 ≤ M.rm.frames ∧ 8 + (M'.nL + 11) + M'.rm.locals ≤ M.rm.locals) (hf : k + M'.rm.cells ≤ M.rm.cells ∧ n + M'.rm.slots ≤ M.rm.slots) (hcat : (st.map fun v => v.category).sum ≤ 8) (d : decode cc pc = .ok (.invokevirtual index, 3)) (kk : ∀ (r : Int64) (h' : AH), P r h' → V E cc own M Po Px X h' (k + M'.rm.cells) (n + M'.rm.slots) (pc + 3) ls (.long r :: st)) : V E cc own M Po Px X h k n pc ls (a5 :: a4 :: a3 :: a2 :: a1 :: .ref a :: st) := g_callV (av := [a1, a2, a3, a4, a5]) hc hk hlk ha hcl hq hR hf rfl hcat d (fun _ _ _ z => z.elim) (fun v h' z => by
    obtain ⟨r, rfl, p⟩ := z
    exact kk r h' p)
theorem g_V5lx {index a t ci : Nat} {fs : List Value} {q : vw_C} {cc' : ByteArray} {M' : GM} {a1 a2 a3 a4 a5 : Value} {P : Int64 → AH → Prop} {Px' : String → Nat → AH → Prop} (hc : Ct E cc' M' [.ref a, a1, a2, a3, a4, a5] h (pL (fun r h' => P r h')) Px') (hk : gCv cc' M' 5) (hlk : Cond.methodLink own index M'.y ∈ lw_all) (ha : h a = some (t, gO ci fs)) (hcl : gCl[ci]? = some q) (hq : q.1 = M'.y.cls) (hR : M'.rm.frames + 1 ≤ M.rm.frames ∧ 8 + (M'.nL + 11) + M'.rm.locals ≤ M.rm.locals) (hf : k + M'.rm.cells ≤ M.rm.cells ∧ n + M'.rm.slots ≤ M.rm.slots) (hcat : (st.map fun v => v.category).sum ≤ 8) (d : decode cc pc = .ok (.invokevirtual index, 3)) (kx : ∀ (C : String) (q : Nat) (h' : AH), Px' C q h' → VX E cc own M Po Px X h' (k + M'.rm.cells) (n + M'.rm.slots) pc ls C q) (kk : ∀ (r : Int64) (h' : AH), P r h' → V E cc own M Po Px X h' (k + M'.rm.cells) (n + M'.rm.slots) (pc + 3) ls (.long r :: st)) : V E cc own M Po Px X h k n pc ls (a5 :: a4 :: a3 :: a2 :: a1 :: .ref a :: st) := g_callV (av := [a1, a2, a3, a4, a5]) hc hk hlk ha hcl hq hR hf rfl hcat d kx (fun v h' z => by
    obtain ⟨r, rfl, p⟩ := z
    exact kk r h' p)
theorem g_V5r0 {index a t ci : Nat} {fs : List Value} {q : vw_C} {cc' : ByteArray} {M' : GM} {a1 a2 a3 a4 a5 : Value} {P : Nat → AH → Prop} (hc : Ct E cc' M' [.ref a, a1, a2, a3, a4, a5] h (pR (fun r h' => P r h')) noX) (hk : gCv cc' M' 5) (hlk : Cond.methodLink own index M'.y ∈ lw_all) (ha : h a = some (t, gO ci fs)) (hcl : gCl[ci]? = some q) (hq : q.1 = M'.y.cls) (hR : M'.rm.frames + 1 ≤ M.rm.frames ∧ 8 + (M'.nL + 11) + M'.rm.locals ≤ M.rm.locals) (hz : M'.rm.cells = 0 ∧ M'.rm.slots = 0) (hf : k ≤ M.rm.cells ∧ n ≤ M.rm.slots) (hcat : (st.map fun v => v.category).sum ≤ 8) (d : decode cc pc = .ok (.invokevirtual index, 3)) (kk : ∀ (r : Nat) (h' : AH), P r h' → V E cc own M Po Px X h' k n (pc + 3) ls (.ref r :: st)) : V E cc own M Po Px X h k n pc ls (a5 :: a4 :: a3 :: a2 :: a1 :: .ref a :: st) := by
  obtain ⟨z1, z2⟩ := hz
  refine g_callV (av := [a1, a2, a3, a4, a5]) hc hk hlk ha hcl hq hR (by rw [z1, z2]; exact hf) rfl hcat d (fun _ _ _ z => z.elim) (fun v h' z => by
    obtain ⟨r, rfl, p⟩ := z
    rw [z1, z2]
    exact kk r h' p)
theorem g_V5r0x {index a t ci : Nat} {fs : List Value} {q : vw_C} {cc' : ByteArray} {M' : GM} {a1 a2 a3 a4 a5 : Value} {P : Nat → AH → Prop} {Px' : String → Nat → AH → Prop} (hc : Ct E cc' M' [.ref a, a1, a2, a3, a4, a5] h (pR (fun r h' => P r h')) Px') (hk : gCv cc' M' 5) (hlk : Cond.methodLink own index M'.y ∈ lw_all) (ha : h a = some (t, gO ci fs)) (hcl : gCl[ci]? = some q) (hq : q.1 = M'.y.cls) (hR : M'.rm.frames + 1 ≤ M.rm.frames ∧ 8 + (M'.nL + 11) + M'.rm.locals ≤ M.rm.locals) (hz : M'.rm.cells = 0 ∧ M'.rm.slots = 0) (hf : k ≤ M.rm.cells ∧ n ≤ M.rm.slots) (hcat : (st.map fun v => v.category).sum ≤ 8) (d : decode cc pc = .ok (.invokevirtual index, 3)) (kx : ∀ (C : String) (q : Nat) (h' : AH), Px' C q h' → VX E cc own M Po Px X h' k n pc ls C q) (kk : ∀ (r : Nat) (h' : AH), P r h' → V E cc own M Po Px X h' k n (pc + 3) ls (.ref r :: st)) : V E cc own M Po Px X h k n pc ls (a5 :: a4 :: a3 :: a2 :: a1 :: .ref a :: st) := by
  obtain ⟨z1, z2⟩ := hz
  refine g_callV (av := [a1, a2, a3, a4, a5]) hc hk hlk ha hcl hq hR (by rw [z1, z2]; exact hf) rfl hcat d (fun C q h' z => by rw [z1, z2]; exact kx C q h' z) (fun v h' z => by
    obtain ⟨r, rfl, p⟩ := z
    rw [z1, z2]
    exact kk r h' p)
theorem g_V5r {index a t ci : Nat} {fs : List Value} {q : vw_C} {cc' : ByteArray} {M' : GM} {a1 a2 a3 a4 a5 : Value} {P : Nat → AH → Prop} (hc : Ct E cc' M' [.ref a, a1, a2, a3, a4, a5] h (pR (fun r h' => P r h')) noX) (hk : gCv cc' M' 5) (hlk : Cond.methodLink own index M'.y ∈ lw_all) (ha : h a = some (t, gO ci fs)) (hcl : gCl[ci]? = some q) (hq : q.1 = M'.y.cls) (hR : M'.rm.frames + 1 ≤ M.rm.frames ∧ 8 + (M'.nL + 11) + M'.rm.locals ≤ M.rm.locals) (hf : k + M'.rm.cells ≤ M.rm.cells ∧ n + M'.rm.slots ≤ M.rm.slots) (hcat : (st.map fun v => v.category).sum ≤ 8) (d : decode cc pc = .ok (.invokevirtual index, 3)) (kk : ∀ (r : Nat) (h' : AH), P r h' → V E cc own M Po Px X h' (k + M'.rm.cells) (n + M'.rm.slots) (pc + 3) ls (.ref r :: st)) : V E cc own M Po Px X h k n pc ls (a5 :: a4 :: a3 :: a2 :: a1 :: .ref a :: st) := g_callV (av := [a1, a2, a3, a4, a5]) hc hk hlk ha hcl hq hR hf rfl hcat d (fun _ _ _ z => z.elim) (fun v h' z => by
    obtain ⟨r, rfl, p⟩ := z
    exact kk r h' p)
theorem g_V5rx {index a t ci : Nat} {fs : List Value} {q : vw_C} {cc' : ByteArray} {M' : GM} {a1 a2 a3 a4 a5 : Value} {P : Nat → AH → Prop} {Px' : String → Nat → AH → Prop} (hc : Ct E cc' M' [.ref a, a1, a2, a3, a4, a5] h (pR (fun r h' => P r h')) Px') (hk : gCv cc' M' 5) (hlk : Cond.methodLink own index M'.y ∈ lw_all) (ha : h a = some (t, gO ci fs)) (hcl : gCl[ci]? = some q) (hq : q.1 = M'.y.cls) (hR : M'.rm.frames + 1 ≤ M.rm.frames ∧ 8 + (M'.nL + 11) + M'.rm.locals ≤ M.rm.locals) (hf : k + M'.rm.cells ≤ M.rm.cells ∧ n + M'.rm.slots ≤ M.rm.slots) (hcat : (st.map fun v => v.category).sum ≤ 8) (d : decode cc pc = .ok (.invokevirtual index, 3)) (kx : ∀ (C : String) (q : Nat) (h' : AH), Px' C q h' → VX E cc own M Po Px X h' (k + M'.rm.cells) (n + M'.rm.slots) pc ls C q) (kk : ∀ (r : Nat) (h' : AH), P r h' → V E cc own M Po Px X h' (k + M'.rm.cells) (n + M'.rm.slots) (pc + 3) ls (.ref r :: st)) : V E cc own M Po Px X h k n pc ls (a5 :: a4 :: a3 :: a2 :: a1 :: .ref a :: st) := g_callV (av := [a1, a2, a3, a4, a5]) hc hk hlk ha hcl hq hR hf rfl hcat d kx (fun v h' z => by
    obtain ⟨r, rfl, p⟩ := z
    exact kk r h' p)
theorem g_V5q0 {index a t ci : Nat} {fs : List Value} {q : vw_C} {cc' : ByteArray} {M' : GM} {a1 a2 a3 a4 a5 : Value} {P : Option Nat → AH → Prop} (hc : Ct E cc' M' [.ref a, a1, a2, a3, a4, a5] h (pQ (fun r h' => P r h')) noX) (hk : gCv cc' M' 5) (hlk : Cond.methodLink own index M'.y ∈ lw_all) (ha : h a = some (t, gO ci fs)) (hcl : gCl[ci]? = some q) (hq : q.1 = M'.y.cls) (hR : M'.rm.frames + 1 ≤ M.rm.frames ∧ 8 + (M'.nL + 11) + M'.rm.locals ≤ M.rm.locals) (hz : M'.rm.cells = 0 ∧ M'.rm.slots = 0) (hf : k ≤ M.rm.cells ∧ n ≤ M.rm.slots) (hcat : (st.map fun v => v.category).sum ≤ 8) (d : decode cc pc = .ok (.invokevirtual index, 3)) (kk : ∀ (r : Option Nat) (h' : AH), P r h' → V E cc own M Po Px X h' k n (pc + 3) ls (va_rf r :: st)) : V E cc own M Po Px X h k n pc ls (a5 :: a4 :: a3 :: a2 :: a1 :: .ref a :: st) := by
  obtain ⟨z1, z2⟩ := hz
  refine g_callV (av := [a1, a2, a3, a4, a5]) hc hk hlk ha hcl hq hR (by rw [z1, z2]; exact hf) rfl hcat d (fun _ _ _ z => z.elim) (fun v h' z => by
    obtain ⟨r, rfl, p⟩ := z
    rw [z1, z2]
    exact kk r h' p)
theorem g_V5q0x {index a t ci : Nat} {fs : List Value} {q : vw_C} {cc' : ByteArray} {M' : GM} {a1 a2 a3 a4 a5 : Value} {P : Option Nat → AH → Prop} {Px' : String → Nat → AH → Prop} (hc : Ct E cc' M' [.ref a, a1, a2, a3, a4, a5] h (pQ (fun r h' => P r h')) Px') (hk : gCv cc' M' 5) (hlk : Cond.methodLink own index M'.y ∈ lw_all) (ha : h a = some (t, gO ci fs)) (hcl : gCl[ci]? = some q) (hq : q.1 = M'.y.cls) (hR : M'.rm.frames + 1 ≤ M.rm.frames ∧ 8 + (M'.nL + 11) + M'.rm.locals ≤ M.rm.locals) (hz : M'.rm.cells = 0 ∧ M'.rm.slots = 0) (hf : k ≤ M.rm.cells ∧ n ≤ M.rm.slots) (hcat : (st.map fun v => v.category).sum ≤ 8) (d : decode cc pc = .ok (.invokevirtual index, 3)) (kx : ∀ (C : String) (q : Nat) (h' : AH), Px' C q h' → VX E cc own M Po Px X h' k n pc ls C q) (kk : ∀ (r : Option Nat) (h' : AH), P r h' → V E cc own M Po Px X h' k n (pc + 3) ls (va_rf r :: st)) : V E cc own M Po Px X h k n pc ls (a5 :: a4 :: a3 :: a2 :: a1 :: .ref a :: st) := by
  obtain ⟨z1, z2⟩ := hz
  refine g_callV (av := [a1, a2, a3, a4, a5]) hc hk hlk ha hcl hq hR (by rw [z1, z2]; exact hf) rfl hcat d (fun C q h' z => by rw [z1, z2]; exact kx C q h' z) (fun v h' z => by
    obtain ⟨r, rfl, p⟩ := z
    rw [z1, z2]
    exact kk r h' p)
theorem g_V5q {index a t ci : Nat} {fs : List Value} {q : vw_C} {cc' : ByteArray} {M' : GM} {a1 a2 a3 a4 a5 : Value} {P : Option Nat → AH → Prop} (hc : Ct E cc' M' [.ref a, a1, a2, a3, a4, a5] h (pQ (fun r h' => P r h')) noX) (hk : gCv cc' M' 5) (hlk : Cond.methodLink own index M'.y ∈ lw_all) (ha : h a = some (t, gO ci fs)) (hcl : gCl[ci]? = some q) (hq : q.1 = M'.y.cls) (hR : M'.rm.frames + 1 ≤ M.rm.frames ∧ 8 + (M'.nL + 11) + M'.rm.locals ≤ M.rm.locals) (hf : k + M'.rm.cells ≤ M.rm.cells ∧ n + M'.rm.slots ≤ M.rm.slots) (hcat : (st.map fun v => v.category).sum ≤ 8) (d : decode cc pc = .ok (.invokevirtual index, 3)) (kk : ∀ (r : Option Nat) (h' : AH), P r h' → V E cc own M Po Px X h' (k + M'.rm.cells) (n + M'.rm.slots) (pc + 3) ls (va_rf r :: st)) : V E cc own M Po Px X h k n pc ls (a5 :: a4 :: a3 :: a2 :: a1 :: .ref a :: st) := g_callV (av := [a1, a2, a3, a4, a5]) hc hk hlk ha hcl hq hR hf rfl hcat d (fun _ _ _ z => z.elim) (fun v h' z => by
    obtain ⟨r, rfl, p⟩ := z
    exact kk r h' p)
theorem g_V5qx {index a t ci : Nat} {fs : List Value} {q : vw_C} {cc' : ByteArray} {M' : GM} {a1 a2 a3 a4 a5 : Value} {P : Option Nat → AH → Prop} {Px' : String → Nat → AH → Prop} (hc : Ct E cc' M' [.ref a, a1, a2, a3, a4, a5] h (pQ (fun r h' => P r h')) Px') (hk : gCv cc' M' 5) (hlk : Cond.methodLink own index M'.y ∈ lw_all) (ha : h a = some (t, gO ci fs)) (hcl : gCl[ci]? = some q) (hq : q.1 = M'.y.cls) (hR : M'.rm.frames + 1 ≤ M.rm.frames ∧ 8 + (M'.nL + 11) + M'.rm.locals ≤ M.rm.locals) (hf : k + M'.rm.cells ≤ M.rm.cells ∧ n + M'.rm.slots ≤ M.rm.slots) (hcat : (st.map fun v => v.category).sum ≤ 8) (d : decode cc pc = .ok (.invokevirtual index, 3)) (kx : ∀ (C : String) (q : Nat) (h' : AH), Px' C q h' → VX E cc own M Po Px X h' (k + M'.rm.cells) (n + M'.rm.slots) pc ls C q) (kk : ∀ (r : Option Nat) (h' : AH), P r h' → V E cc own M Po Px X h' (k + M'.rm.cells) (n + M'.rm.slots) (pc + 3) ls (va_rf r :: st)) : V E cc own M Po Px X h k n pc ls (a5 :: a4 :: a3 :: a2 :: a1 :: .ref a :: st) := g_callV (av := [a1, a2, a3, a4, a5]) hc hk hlk ha hcl hq hR hf rfl hcat d kx (fun v h' z => by
    obtain ⟨r, rfl, p⟩ := z
    exact kk r h' p)
theorem g_V5v0 {index a t ci : Nat} {fs : List Value} {q : vw_C} {cc' : ByteArray} {M' : GM} {a1 a2 a3 a4 a5 : Value} {P : AH → Prop} (hc : Ct E cc' M' [.ref a, a1, a2, a3, a4, a5] h (pV (fun h' => P h')) noX) (hk : gCv cc' M' 5) (hlk : Cond.methodLink own index M'.y ∈ lw_all) (ha : h a = some (t, gO ci fs)) (hcl : gCl[ci]? = some q) (hq : q.1 = M'.y.cls) (hR : M'.rm.frames + 1 ≤ M.rm.frames ∧ 8 + (M'.nL + 11) + M'.rm.locals ≤ M.rm.locals) (hz : M'.rm.cells = 0 ∧ M'.rm.slots = 0) (hf : k ≤ M.rm.cells ∧ n ≤ M.rm.slots) (hcat : (st.map fun v => v.category).sum ≤ 8) (d : decode cc pc = .ok (.invokevirtual index, 3)) (kk : ∀ (h' : AH), P h' → V E cc own M Po Px X h' k n (pc + 3) ls st) : V E cc own M Po Px X h k n pc ls (a5 :: a4 :: a3 :: a2 :: a1 :: .ref a :: st) := by
  obtain ⟨z1, z2⟩ := hz
  refine g_callV (av := [a1, a2, a3, a4, a5]) hc hk hlk ha hcl hq hR (by rw [z1, z2]; exact hf) rfl hcat d (fun _ _ _ z => z.elim) (fun v h' z => by
    obtain ⟨rfl, p⟩ := z
    rw [z1, z2]
    exact kk h' p)
theorem g_V5v0x {index a t ci : Nat} {fs : List Value} {q : vw_C} {cc' : ByteArray} {M' : GM} {a1 a2 a3 a4 a5 : Value} {P : AH → Prop} {Px' : String → Nat → AH → Prop} (hc : Ct E cc' M' [.ref a, a1, a2, a3, a4, a5] h (pV (fun h' => P h')) Px') (hk : gCv cc' M' 5) (hlk : Cond.methodLink own index M'.y ∈ lw_all) (ha : h a = some (t, gO ci fs)) (hcl : gCl[ci]? = some q) (hq : q.1 = M'.y.cls) (hR : M'.rm.frames + 1 ≤ M.rm.frames ∧ 8 + (M'.nL + 11) + M'.rm.locals ≤ M.rm.locals) (hz : M'.rm.cells = 0 ∧ M'.rm.slots = 0) (hf : k ≤ M.rm.cells ∧ n ≤ M.rm.slots) (hcat : (st.map fun v => v.category).sum ≤ 8) (d : decode cc pc = .ok (.invokevirtual index, 3)) (kx : ∀ (C : String) (q : Nat) (h' : AH), Px' C q h' → VX E cc own M Po Px X h' k n pc ls C q) (kk : ∀ (h' : AH), P h' → V E cc own M Po Px X h' k n (pc + 3) ls st) : V E cc own M Po Px X h k n pc ls (a5 :: a4 :: a3 :: a2 :: a1 :: .ref a :: st) := by
  obtain ⟨z1, z2⟩ := hz
  refine g_callV (av := [a1, a2, a3, a4, a5]) hc hk hlk ha hcl hq hR (by rw [z1, z2]; exact hf) rfl hcat d (fun C q h' z => by rw [z1, z2]; exact kx C q h' z) (fun v h' z => by
    obtain ⟨rfl, p⟩ := z
    rw [z1, z2]
    exact kk h' p)
theorem g_V5v {index a t ci : Nat} {fs : List Value} {q : vw_C} {cc' : ByteArray} {M' : GM} {a1 a2 a3 a4 a5 : Value} {P : AH → Prop} (hc : Ct E cc' M' [.ref a, a1, a2, a3, a4, a5] h (pV (fun h' => P h')) noX) (hk : gCv cc' M' 5) (hlk : Cond.methodLink own index M'.y ∈ lw_all) (ha : h a = some (t, gO ci fs)) (hcl : gCl[ci]? = some q) (hq : q.1 = M'.y.cls) (hR : M'.rm.frames + 1 ≤ M.rm.frames ∧ 8 + (M'.nL + 11) + M'.rm.locals ≤ M.rm.locals) (hf : k + M'.rm.cells ≤ M.rm.cells ∧ n + M'.rm.slots ≤ M.rm.slots) (hcat : (st.map fun v => v.category).sum ≤ 8) (d : decode cc pc = .ok (.invokevirtual index, 3)) (kk : ∀ (h' : AH), P h' → V E cc own M Po Px X h' (k + M'.rm.cells) (n + M'.rm.slots) (pc + 3) ls st) : V E cc own M Po Px X h k n pc ls (a5 :: a4 :: a3 :: a2 :: a1 :: .ref a :: st) := g_callV (av := [a1, a2, a3, a4, a5]) hc hk hlk ha hcl hq hR hf rfl hcat d (fun _ _ _ z => z.elim) (fun v h' z => by
    obtain ⟨rfl, p⟩ := z
    exact kk h' p)
theorem g_V5vx {index a t ci : Nat} {fs : List Value} {q : vw_C} {cc' : ByteArray} {M' : GM} {a1 a2 a3 a4 a5 : Value} {P : AH → Prop} {Px' : String → Nat → AH → Prop} (hc : Ct E cc' M' [.ref a, a1, a2, a3, a4, a5] h (pV (fun h' => P h')) Px') (hk : gCv cc' M' 5) (hlk : Cond.methodLink own index M'.y ∈ lw_all) (ha : h a = some (t, gO ci fs)) (hcl : gCl[ci]? = some q) (hq : q.1 = M'.y.cls) (hR : M'.rm.frames + 1 ≤ M.rm.frames ∧ 8 + (M'.nL + 11) + M'.rm.locals ≤ M.rm.locals) (hf : k + M'.rm.cells ≤ M.rm.cells ∧ n + M'.rm.slots ≤ M.rm.slots) (hcat : (st.map fun v => v.category).sum ≤ 8) (d : decode cc pc = .ok (.invokevirtual index, 3)) (kx : ∀ (C : String) (q : Nat) (h' : AH), Px' C q h' → VX E cc own M Po Px X h' (k + M'.rm.cells) (n + M'.rm.slots) pc ls C q) (kk : ∀ (h' : AH), P h' → V E cc own M Po Px X h' (k + M'.rm.cells) (n + M'.rm.slots) (pc + 3) ls st) : V E cc own M Po Px X h k n pc ls (a5 :: a4 :: a3 :: a2 :: a1 :: .ref a :: st) := g_callV (av := [a1, a2, a3, a4, a5]) hc hk hlk ha hcl hq hR hf rfl hcat d kx (fun v h' z => by
    obtain ⟨rfl, p⟩ := z
    exact kk h' p)
theorem g_I0v0 {index a : Nat} {cc' : ByteArray} {M' : GM} {P : AH → Prop} (hc : Ct E cc' M' [.ref a] h (pV (fun h' => P h')) noX) (hk : gCi cc' M' 0) (hlk : Cond.methodLink own index M'.y ∈ lw_all) (hR : M'.rm.frames + 1 ≤ M.rm.frames ∧ 8 + (M'.nL + 11) + M'.rm.locals ≤ M.rm.locals) (hz : M'.rm.cells = 0 ∧ M'.rm.slots = 0) (hf : k ≤ M.rm.cells ∧ n ≤ M.rm.slots) (hcat : (st.map fun v => v.category).sum ≤ 8) (d : decode cc pc = .ok (.invokespecial index, 3)) (kk : ∀ (h' : AH), P h' → V E cc own M Po Px X h' k n (pc + 3) ls st) : V E cc own M Po Px X h k n pc ls (.ref a :: st) := by
  obtain ⟨z1, z2⟩ := hz
  refine g_callI (av := []) hc hk hlk hR (by rw [z1, z2]; exact hf) rfl hcat d (fun _ _ _ z => z.elim) (fun v h' z => by
    obtain ⟨rfl, p⟩ := z
    rw [z1, z2]
    exact kk h' p)
theorem g_I0v0x {index a : Nat} {cc' : ByteArray} {M' : GM} {P : AH → Prop} {Px' : String → Nat → AH → Prop} (hc : Ct E cc' M' [.ref a] h (pV (fun h' => P h')) Px') (hk : gCi cc' M' 0) (hlk : Cond.methodLink own index M'.y ∈ lw_all) (hR : M'.rm.frames + 1 ≤ M.rm.frames ∧ 8 + (M'.nL + 11) + M'.rm.locals ≤ M.rm.locals) (hz : M'.rm.cells = 0 ∧ M'.rm.slots = 0) (hf : k ≤ M.rm.cells ∧ n ≤ M.rm.slots) (hcat : (st.map fun v => v.category).sum ≤ 8) (d : decode cc pc = .ok (.invokespecial index, 3)) (kx : ∀ (C : String) (q : Nat) (h' : AH), Px' C q h' → VX E cc own M Po Px X h' k n pc ls C q) (kk : ∀ (h' : AH), P h' → V E cc own M Po Px X h' k n (pc + 3) ls st) : V E cc own M Po Px X h k n pc ls (.ref a :: st) := by
  obtain ⟨z1, z2⟩ := hz
  refine g_callI (av := []) hc hk hlk hR (by rw [z1, z2]; exact hf) rfl hcat d (fun C q h' z => by rw [z1, z2]; exact kx C q h' z) (fun v h' z => by
    obtain ⟨rfl, p⟩ := z
    rw [z1, z2]
    exact kk h' p)
theorem g_I0v {index a : Nat} {cc' : ByteArray} {M' : GM} {P : AH → Prop} (hc : Ct E cc' M' [.ref a] h (pV (fun h' => P h')) noX) (hk : gCi cc' M' 0) (hlk : Cond.methodLink own index M'.y ∈ lw_all) (hR : M'.rm.frames + 1 ≤ M.rm.frames ∧ 8 + (M'.nL + 11) + M'.rm.locals ≤ M.rm.locals) (hf : k + M'.rm.cells ≤ M.rm.cells ∧ n + M'.rm.slots ≤ M.rm.slots) (hcat : (st.map fun v => v.category).sum ≤ 8) (d : decode cc pc = .ok (.invokespecial index, 3)) (kk : ∀ (h' : AH), P h' → V E cc own M Po Px X h' (k + M'.rm.cells) (n + M'.rm.slots) (pc + 3) ls st) : V E cc own M Po Px X h k n pc ls (.ref a :: st) := g_callI (av := []) hc hk hlk hR hf rfl hcat d (fun _ _ _ z => z.elim) (fun v h' z => by
    obtain ⟨rfl, p⟩ := z
    exact kk h' p)
theorem g_I0vx {index a : Nat} {cc' : ByteArray} {M' : GM} {P : AH → Prop} {Px' : String → Nat → AH → Prop} (hc : Ct E cc' M' [.ref a] h (pV (fun h' => P h')) Px') (hk : gCi cc' M' 0) (hlk : Cond.methodLink own index M'.y ∈ lw_all) (hR : M'.rm.frames + 1 ≤ M.rm.frames ∧ 8 + (M'.nL + 11) + M'.rm.locals ≤ M.rm.locals) (hf : k + M'.rm.cells ≤ M.rm.cells ∧ n + M'.rm.slots ≤ M.rm.slots) (hcat : (st.map fun v => v.category).sum ≤ 8) (d : decode cc pc = .ok (.invokespecial index, 3)) (kx : ∀ (C : String) (q : Nat) (h' : AH), Px' C q h' → VX E cc own M Po Px X h' (k + M'.rm.cells) (n + M'.rm.slots) pc ls C q) (kk : ∀ (h' : AH), P h' → V E cc own M Po Px X h' (k + M'.rm.cells) (n + M'.rm.slots) (pc + 3) ls st) : V E cc own M Po Px X h k n pc ls (.ref a :: st) := g_callI (av := []) hc hk hlk hR hf rfl hcat d kx (fun v h' z => by
    obtain ⟨rfl, p⟩ := z
    exact kk h' p)
theorem g_I1v0 {index a : Nat} {cc' : ByteArray} {M' : GM} {a1 : Value} {P : AH → Prop} (hc : Ct E cc' M' [.ref a, a1] h (pV (fun h' => P h')) noX) (hk : gCi cc' M' 1) (hlk : Cond.methodLink own index M'.y ∈ lw_all) (hR : M'.rm.frames + 1 ≤ M.rm.frames ∧ 8 + (M'.nL + 11) + M'.rm.locals ≤ M.rm.locals) (hz : M'.rm.cells = 0 ∧ M'.rm.slots = 0) (hf : k ≤ M.rm.cells ∧ n ≤ M.rm.slots) (hcat : (st.map fun v => v.category).sum ≤ 8) (d : decode cc pc = .ok (.invokespecial index, 3)) (kk : ∀ (h' : AH), P h' → V E cc own M Po Px X h' k n (pc + 3) ls st) : V E cc own M Po Px X h k n pc ls (a1 :: .ref a :: st) := by
  obtain ⟨z1, z2⟩ := hz
  refine g_callI (av := [a1]) hc hk hlk hR (by rw [z1, z2]; exact hf) rfl hcat d (fun _ _ _ z => z.elim) (fun v h' z => by
    obtain ⟨rfl, p⟩ := z
    rw [z1, z2]
    exact kk h' p)
theorem g_I1v0x {index a : Nat} {cc' : ByteArray} {M' : GM} {a1 : Value} {P : AH → Prop} {Px' : String → Nat → AH → Prop} (hc : Ct E cc' M' [.ref a, a1] h (pV (fun h' => P h')) Px') (hk : gCi cc' M' 1) (hlk : Cond.methodLink own index M'.y ∈ lw_all) (hR : M'.rm.frames + 1 ≤ M.rm.frames ∧ 8 + (M'.nL + 11) + M'.rm.locals ≤ M.rm.locals) (hz : M'.rm.cells = 0 ∧ M'.rm.slots = 0) (hf : k ≤ M.rm.cells ∧ n ≤ M.rm.slots) (hcat : (st.map fun v => v.category).sum ≤ 8) (d : decode cc pc = .ok (.invokespecial index, 3)) (kx : ∀ (C : String) (q : Nat) (h' : AH), Px' C q h' → VX E cc own M Po Px X h' k n pc ls C q) (kk : ∀ (h' : AH), P h' → V E cc own M Po Px X h' k n (pc + 3) ls st) : V E cc own M Po Px X h k n pc ls (a1 :: .ref a :: st) := by
  obtain ⟨z1, z2⟩ := hz
  refine g_callI (av := [a1]) hc hk hlk hR (by rw [z1, z2]; exact hf) rfl hcat d (fun C q h' z => by rw [z1, z2]; exact kx C q h' z) (fun v h' z => by
    obtain ⟨rfl, p⟩ := z
    rw [z1, z2]
    exact kk h' p)
theorem g_I1v {index a : Nat} {cc' : ByteArray} {M' : GM} {a1 : Value} {P : AH → Prop} (hc : Ct E cc' M' [.ref a, a1] h (pV (fun h' => P h')) noX) (hk : gCi cc' M' 1) (hlk : Cond.methodLink own index M'.y ∈ lw_all) (hR : M'.rm.frames + 1 ≤ M.rm.frames ∧ 8 + (M'.nL + 11) + M'.rm.locals ≤ M.rm.locals) (hf : k + M'.rm.cells ≤ M.rm.cells ∧ n + M'.rm.slots ≤ M.rm.slots) (hcat : (st.map fun v => v.category).sum ≤ 8) (d : decode cc pc = .ok (.invokespecial index, 3)) (kk : ∀ (h' : AH), P h' → V E cc own M Po Px X h' (k + M'.rm.cells) (n + M'.rm.slots) (pc + 3) ls st) : V E cc own M Po Px X h k n pc ls (a1 :: .ref a :: st) := g_callI (av := [a1]) hc hk hlk hR hf rfl hcat d (fun _ _ _ z => z.elim) (fun v h' z => by
    obtain ⟨rfl, p⟩ := z
    exact kk h' p)
theorem g_I1vx {index a : Nat} {cc' : ByteArray} {M' : GM} {a1 : Value} {P : AH → Prop} {Px' : String → Nat → AH → Prop} (hc : Ct E cc' M' [.ref a, a1] h (pV (fun h' => P h')) Px') (hk : gCi cc' M' 1) (hlk : Cond.methodLink own index M'.y ∈ lw_all) (hR : M'.rm.frames + 1 ≤ M.rm.frames ∧ 8 + (M'.nL + 11) + M'.rm.locals ≤ M.rm.locals) (hf : k + M'.rm.cells ≤ M.rm.cells ∧ n + M'.rm.slots ≤ M.rm.slots) (hcat : (st.map fun v => v.category).sum ≤ 8) (d : decode cc pc = .ok (.invokespecial index, 3)) (kx : ∀ (C : String) (q : Nat) (h' : AH), Px' C q h' → VX E cc own M Po Px X h' (k + M'.rm.cells) (n + M'.rm.slots) pc ls C q) (kk : ∀ (h' : AH), P h' → V E cc own M Po Px X h' (k + M'.rm.cells) (n + M'.rm.slots) (pc + 3) ls st) : V E cc own M Po Px X h k n pc ls (a1 :: .ref a :: st) := g_callI (av := [a1]) hc hk hlk hR hf rfl hcat d kx (fun v h' z => by
    obtain ⟨rfl, p⟩ := z
    exact kk h' p)
theorem g_I2v0 {index a : Nat} {cc' : ByteArray} {M' : GM} {a1 a2 : Value} {P : AH → Prop} (hc : Ct E cc' M' [.ref a, a1, a2] h (pV (fun h' => P h')) noX) (hk : gCi cc' M' 2) (hlk : Cond.methodLink own index M'.y ∈ lw_all) (hR : M'.rm.frames + 1 ≤ M.rm.frames ∧ 8 + (M'.nL + 11) + M'.rm.locals ≤ M.rm.locals) (hz : M'.rm.cells = 0 ∧ M'.rm.slots = 0) (hf : k ≤ M.rm.cells ∧ n ≤ M.rm.slots) (hcat : (st.map fun v => v.category).sum ≤ 8) (d : decode cc pc = .ok (.invokespecial index, 3)) (kk : ∀ (h' : AH), P h' → V E cc own M Po Px X h' k n (pc + 3) ls st) : V E cc own M Po Px X h k n pc ls (a2 :: a1 :: .ref a :: st) := by
  obtain ⟨z1, z2⟩ := hz
  refine g_callI (av := [a1, a2]) hc hk hlk hR (by rw [z1, z2]; exact hf) rfl hcat d (fun _ _ _ z => z.elim) (fun v h' z => by
    obtain ⟨rfl, p⟩ := z
    rw [z1, z2]
    exact kk h' p)
theorem g_I2v0x {index a : Nat} {cc' : ByteArray} {M' : GM} {a1 a2 : Value} {P : AH → Prop} {Px' : String → Nat → AH → Prop} (hc : Ct E cc' M' [.ref a, a1, a2] h (pV (fun h' => P h')) Px') (hk : gCi cc' M' 2) (hlk : Cond.methodLink own index M'.y ∈ lw_all) (hR : M'.rm.frames + 1 ≤ M.rm.frames ∧ 8 + (M'.nL + 11) + M'.rm.locals ≤ M.rm.locals) (hz : M'.rm.cells = 0 ∧ M'.rm.slots = 0) (hf : k ≤ M.rm.cells ∧ n ≤ M.rm.slots) (hcat : (st.map fun v => v.category).sum ≤ 8) (d : decode cc pc = .ok (.invokespecial index, 3)) (kx : ∀ (C : String) (q : Nat) (h' : AH), Px' C q h' → VX E cc own M Po Px X h' k n pc ls C q) (kk : ∀ (h' : AH), P h' → V E cc own M Po Px X h' k n (pc + 3) ls st) : V E cc own M Po Px X h k n pc ls (a2 :: a1 :: .ref a :: st) := by
  obtain ⟨z1, z2⟩ := hz
  refine g_callI (av := [a1, a2]) hc hk hlk hR (by rw [z1, z2]; exact hf) rfl hcat d (fun C q h' z => by rw [z1, z2]; exact kx C q h' z) (fun v h' z => by
    obtain ⟨rfl, p⟩ := z
    rw [z1, z2]
    exact kk h' p)
theorem g_I2v {index a : Nat} {cc' : ByteArray} {M' : GM} {a1 a2 : Value} {P : AH → Prop} (hc : Ct E cc' M' [.ref a, a1, a2] h (pV (fun h' => P h')) noX) (hk : gCi cc' M' 2) (hlk : Cond.methodLink own index M'.y ∈ lw_all) (hR : M'.rm.frames + 1 ≤ M.rm.frames ∧ 8 + (M'.nL + 11) + M'.rm.locals ≤ M.rm.locals) (hf : k + M'.rm.cells ≤ M.rm.cells ∧ n + M'.rm.slots ≤ M.rm.slots) (hcat : (st.map fun v => v.category).sum ≤ 8) (d : decode cc pc = .ok (.invokespecial index, 3)) (kk : ∀ (h' : AH), P h' → V E cc own M Po Px X h' (k + M'.rm.cells) (n + M'.rm.slots) (pc + 3) ls st) : V E cc own M Po Px X h k n pc ls (a2 :: a1 :: .ref a :: st) := g_callI (av := [a1, a2]) hc hk hlk hR hf rfl hcat d (fun _ _ _ z => z.elim) (fun v h' z => by
    obtain ⟨rfl, p⟩ := z
    exact kk h' p)
theorem g_I2vx {index a : Nat} {cc' : ByteArray} {M' : GM} {a1 a2 : Value} {P : AH → Prop} {Px' : String → Nat → AH → Prop} (hc : Ct E cc' M' [.ref a, a1, a2] h (pV (fun h' => P h')) Px') (hk : gCi cc' M' 2) (hlk : Cond.methodLink own index M'.y ∈ lw_all) (hR : M'.rm.frames + 1 ≤ M.rm.frames ∧ 8 + (M'.nL + 11) + M'.rm.locals ≤ M.rm.locals) (hf : k + M'.rm.cells ≤ M.rm.cells ∧ n + M'.rm.slots ≤ M.rm.slots) (hcat : (st.map fun v => v.category).sum ≤ 8) (d : decode cc pc = .ok (.invokespecial index, 3)) (kx : ∀ (C : String) (q : Nat) (h' : AH), Px' C q h' → VX E cc own M Po Px X h' (k + M'.rm.cells) (n + M'.rm.slots) pc ls C q) (kk : ∀ (h' : AH), P h' → V E cc own M Po Px X h' (k + M'.rm.cells) (n + M'.rm.slots) (pc + 3) ls st) : V E cc own M Po Px X h k n pc ls (a2 :: a1 :: .ref a :: st) := g_callI (av := [a1, a2]) hc hk hlk hR hf rfl hcat d kx (fun v h' z => by
    obtain ⟨rfl, p⟩ := z
    exact kk h' p)
theorem g_I3v0 {index a : Nat} {cc' : ByteArray} {M' : GM} {a1 a2 a3 : Value} {P : AH → Prop} (hc : Ct E cc' M' [.ref a, a1, a2, a3] h (pV (fun h' => P h')) noX) (hk : gCi cc' M' 3) (hlk : Cond.methodLink own index M'.y ∈ lw_all) (hR : M'.rm.frames + 1 ≤ M.rm.frames ∧ 8 + (M'.nL + 11) + M'.rm.locals ≤ M.rm.locals) (hz : M'.rm.cells = 0 ∧ M'.rm.slots = 0) (hf : k ≤ M.rm.cells ∧ n ≤ M.rm.slots) (hcat : (st.map fun v => v.category).sum ≤ 8) (d : decode cc pc = .ok (.invokespecial index, 3)) (kk : ∀ (h' : AH), P h' → V E cc own M Po Px X h' k n (pc + 3) ls st) : V E cc own M Po Px X h k n pc ls (a3 :: a2 :: a1 :: .ref a :: st) := by
  obtain ⟨z1, z2⟩ := hz
  refine g_callI (av := [a1, a2, a3]) hc hk hlk hR (by rw [z1, z2]; exact hf) rfl hcat d (fun _ _ _ z => z.elim) (fun v h' z => by
    obtain ⟨rfl, p⟩ := z
    rw [z1, z2]
    exact kk h' p)
theorem g_I3v0x {index a : Nat} {cc' : ByteArray} {M' : GM} {a1 a2 a3 : Value} {P : AH → Prop} {Px' : String → Nat → AH → Prop} (hc : Ct E cc' M' [.ref a, a1, a2, a3] h (pV (fun h' => P h')) Px') (hk : gCi cc' M' 3) (hlk : Cond.methodLink own index M'.y ∈ lw_all) (hR : M'.rm.frames + 1 ≤ M.rm.frames ∧ 8 + (M'.nL + 11) + M'.rm.locals ≤ M.rm.locals) (hz : M'.rm.cells = 0 ∧ M'.rm.slots = 0) (hf : k ≤ M.rm.cells ∧ n ≤ M.rm.slots) (hcat : (st.map fun v => v.category).sum ≤ 8) (d : decode cc pc = .ok (.invokespecial index, 3)) (kx : ∀ (C : String) (q : Nat) (h' : AH), Px' C q h' → VX E cc own M Po Px X h' k n pc ls C q) (kk : ∀ (h' : AH), P h' → V E cc own M Po Px X h' k n (pc + 3) ls st) : V E cc own M Po Px X h k n pc ls (a3 :: a2 :: a1 :: .ref a :: st) := by
  obtain ⟨z1, z2⟩ := hz
  refine g_callI (av := [a1, a2, a3]) hc hk hlk hR (by rw [z1, z2]; exact hf) rfl hcat d (fun C q h' z => by rw [z1, z2]; exact kx C q h' z) (fun v h' z => by
    obtain ⟨rfl, p⟩ := z
    rw [z1, z2]
    exact kk h' p)
theorem g_I3v {index a : Nat} {cc' : ByteArray} {M' : GM} {a1 a2 a3 : Value} {P : AH → Prop} (hc : Ct E cc' M' [.ref a, a1, a2, a3] h (pV (fun h' => P h')) noX) (hk : gCi cc' M' 3) (hlk : Cond.methodLink own index M'.y ∈ lw_all) (hR : M'.rm.frames + 1 ≤ M.rm.frames ∧ 8 + (M'.nL + 11) + M'.rm.locals ≤ M.rm.locals) (hf : k + M'.rm.cells ≤ M.rm.cells ∧ n + M'.rm.slots ≤ M.rm.slots) (hcat : (st.map fun v => v.category).sum ≤ 8) (d : decode cc pc = .ok (.invokespecial index, 3)) (kk : ∀ (h' : AH), P h' → V E cc own M Po Px X h' (k + M'.rm.cells) (n + M'.rm.slots) (pc + 3) ls st) : V E cc own M Po Px X h k n pc ls (a3 :: a2 :: a1 :: .ref a :: st) := g_callI (av := [a1, a2, a3]) hc hk hlk hR hf rfl hcat d (fun _ _ _ z => z.elim) (fun v h' z => by
    obtain ⟨rfl, p⟩ := z
    exact kk h' p)
theorem g_I3vx {index a : Nat} {cc' : ByteArray} {M' : GM} {a1 a2 a3 : Value} {P : AH → Prop} {Px' : String → Nat → AH → Prop} (hc : Ct E cc' M' [.ref a, a1, a2, a3] h (pV (fun h' => P h')) Px') (hk : gCi cc' M' 3) (hlk : Cond.methodLink own index M'.y ∈ lw_all) (hR : M'.rm.frames + 1 ≤ M.rm.frames ∧ 8 + (M'.nL + 11) + M'.rm.locals ≤ M.rm.locals) (hf : k + M'.rm.cells ≤ M.rm.cells ∧ n + M'.rm.slots ≤ M.rm.slots) (hcat : (st.map fun v => v.category).sum ≤ 8) (d : decode cc pc = .ok (.invokespecial index, 3)) (kx : ∀ (C : String) (q : Nat) (h' : AH), Px' C q h' → VX E cc own M Po Px X h' (k + M'.rm.cells) (n + M'.rm.slots) pc ls C q) (kk : ∀ (h' : AH), P h' → V E cc own M Po Px X h' (k + M'.rm.cells) (n + M'.rm.slots) (pc + 3) ls st) : V E cc own M Po Px X h k n pc ls (a3 :: a2 :: a1 :: .ref a :: st) := g_callI (av := [a1, a2, a3]) hc hk hlk hR hf rfl hcat d kx (fun v h' z => by
    obtain ⟨rfl, p⟩ := z
    exact kk h' p)
theorem g_I4v0 {index a : Nat} {cc' : ByteArray} {M' : GM} {a1 a2 a3 a4 : Value} {P : AH → Prop} (hc : Ct E cc' M' [.ref a, a1, a2, a3, a4] h (pV (fun h' => P h')) noX) (hk : gCi cc' M' 4) (hlk : Cond.methodLink own index M'.y ∈ lw_all) (hR : M'.rm.frames + 1 ≤ M.rm.frames ∧ 8 + (M'.nL + 11) + M'.rm.locals ≤ M.rm.locals) (hz : M'.rm.cells = 0 ∧ M'.rm.slots = 0) (hf : k ≤ M.rm.cells ∧ n ≤ M.rm.slots) (hcat : (st.map fun v => v.category).sum ≤ 8) (d : decode cc pc = .ok (.invokespecial index, 3)) (kk : ∀ (h' : AH), P h' → V E cc own M Po Px X h' k n (pc + 3) ls st) : V E cc own M Po Px X h k n pc ls (a4 :: a3 :: a2 :: a1 :: .ref a :: st) := by
  obtain ⟨z1, z2⟩ := hz
  refine g_callI (av := [a1, a2, a3, a4]) hc hk hlk hR (by rw [z1, z2]; exact hf) rfl hcat d (fun _ _ _ z => z.elim) (fun v h' z => by
    obtain ⟨rfl, p⟩ := z
    rw [z1, z2]
    exact kk h' p)
theorem g_I4v0x {index a : Nat} {cc' : ByteArray} {M' : GM} {a1 a2 a3 a4 : Value} {P : AH → Prop} {Px' : String → Nat → AH → Prop} (hc : Ct E cc' M' [.ref a, a1, a2, a3, a4] h (pV (fun h' => P h')) Px') (hk : gCi cc' M' 4) (hlk : Cond.methodLink own index M'.y ∈ lw_all) (hR : M'.rm.frames + 1 ≤ M.rm.frames ∧ 8 + (M'.nL + 11) + M'.rm.locals ≤ M.rm.locals) (hz : M'.rm.cells = 0 ∧ M'.rm.slots = 0) (hf : k ≤ M.rm.cells ∧ n ≤ M.rm.slots) (hcat : (st.map fun v => v.category).sum ≤ 8) (d : decode cc pc = .ok (.invokespecial index, 3)) (kx : ∀ (C : String) (q : Nat) (h' : AH), Px' C q h' → VX E cc own M Po Px X h' k n pc ls C q) (kk : ∀ (h' : AH), P h' → V E cc own M Po Px X h' k n (pc + 3) ls st) : V E cc own M Po Px X h k n pc ls (a4 :: a3 :: a2 :: a1 :: .ref a :: st) := by
  obtain ⟨z1, z2⟩ := hz
  refine g_callI (av := [a1, a2, a3, a4]) hc hk hlk hR (by rw [z1, z2]; exact hf) rfl hcat d (fun C q h' z => by rw [z1, z2]; exact kx C q h' z) (fun v h' z => by
    obtain ⟨rfl, p⟩ := z
    rw [z1, z2]
    exact kk h' p)
theorem g_I4v {index a : Nat} {cc' : ByteArray} {M' : GM} {a1 a2 a3 a4 : Value} {P : AH → Prop} (hc : Ct E cc' M' [.ref a, a1, a2, a3, a4] h (pV (fun h' => P h')) noX) (hk : gCi cc' M' 4) (hlk : Cond.methodLink own index M'.y ∈ lw_all) (hR : M'.rm.frames + 1 ≤ M.rm.frames ∧ 8 + (M'.nL + 11) + M'.rm.locals ≤ M.rm.locals) (hf : k + M'.rm.cells ≤ M.rm.cells ∧ n + M'.rm.slots ≤ M.rm.slots) (hcat : (st.map fun v => v.category).sum ≤ 8) (d : decode cc pc = .ok (.invokespecial index, 3)) (kk : ∀ (h' : AH), P h' → V E cc own M Po Px X h' (k + M'.rm.cells) (n + M'.rm.slots) (pc + 3) ls st) : V E cc own M Po Px X h k n pc ls (a4 :: a3 :: a2 :: a1 :: .ref a :: st) := g_callI (av := [a1, a2, a3, a4]) hc hk hlk hR hf rfl hcat d (fun _ _ _ z => z.elim) (fun v h' z => by
    obtain ⟨rfl, p⟩ := z
    exact kk h' p)
theorem g_I4vx {index a : Nat} {cc' : ByteArray} {M' : GM} {a1 a2 a3 a4 : Value} {P : AH → Prop} {Px' : String → Nat → AH → Prop} (hc : Ct E cc' M' [.ref a, a1, a2, a3, a4] h (pV (fun h' => P h')) Px') (hk : gCi cc' M' 4) (hlk : Cond.methodLink own index M'.y ∈ lw_all) (hR : M'.rm.frames + 1 ≤ M.rm.frames ∧ 8 + (M'.nL + 11) + M'.rm.locals ≤ M.rm.locals) (hf : k + M'.rm.cells ≤ M.rm.cells ∧ n + M'.rm.slots ≤ M.rm.slots) (hcat : (st.map fun v => v.category).sum ≤ 8) (d : decode cc pc = .ok (.invokespecial index, 3)) (kx : ∀ (C : String) (q : Nat) (h' : AH), Px' C q h' → VX E cc own M Po Px X h' (k + M'.rm.cells) (n + M'.rm.slots) pc ls C q) (kk : ∀ (h' : AH), P h' → V E cc own M Po Px X h' (k + M'.rm.cells) (n + M'.rm.slots) (pc + 3) ls st) : V E cc own M Po Px X h k n pc ls (a4 :: a3 :: a2 :: a1 :: .ref a :: st) := g_callI (av := [a1, a2, a3, a4]) hc hk hlk hR hf rfl hcat d kx (fun v h' z => by
    obtain ⟨rfl, p⟩ := z
    exact kk h' p)
theorem g_I5v0 {index a : Nat} {cc' : ByteArray} {M' : GM} {a1 a2 a3 a4 a5 : Value} {P : AH → Prop} (hc : Ct E cc' M' [.ref a, a1, a2, a3, a4, a5] h (pV (fun h' => P h')) noX) (hk : gCi cc' M' 5) (hlk : Cond.methodLink own index M'.y ∈ lw_all) (hR : M'.rm.frames + 1 ≤ M.rm.frames ∧ 8 + (M'.nL + 11) + M'.rm.locals ≤ M.rm.locals) (hz : M'.rm.cells = 0 ∧ M'.rm.slots = 0) (hf : k ≤ M.rm.cells ∧ n ≤ M.rm.slots) (hcat : (st.map fun v => v.category).sum ≤ 8) (d : decode cc pc = .ok (.invokespecial index, 3)) (kk : ∀ (h' : AH), P h' → V E cc own M Po Px X h' k n (pc + 3) ls st) : V E cc own M Po Px X h k n pc ls (a5 :: a4 :: a3 :: a2 :: a1 :: .ref a :: st) := by
  obtain ⟨z1, z2⟩ := hz
  refine g_callI (av := [a1, a2, a3, a4, a5]) hc hk hlk hR (by rw [z1, z2]; exact hf) rfl hcat d (fun _ _ _ z => z.elim) (fun v h' z => by
    obtain ⟨rfl, p⟩ := z
    rw [z1, z2]
    exact kk h' p)
theorem g_I5v0x {index a : Nat} {cc' : ByteArray} {M' : GM} {a1 a2 a3 a4 a5 : Value} {P : AH → Prop} {Px' : String → Nat → AH → Prop} (hc : Ct E cc' M' [.ref a, a1, a2, a3, a4, a5] h (pV (fun h' => P h')) Px') (hk : gCi cc' M' 5) (hlk : Cond.methodLink own index M'.y ∈ lw_all) (hR : M'.rm.frames + 1 ≤ M.rm.frames ∧ 8 + (M'.nL + 11) + M'.rm.locals ≤ M.rm.locals) (hz : M'.rm.cells = 0 ∧ M'.rm.slots = 0) (hf : k ≤ M.rm.cells ∧ n ≤ M.rm.slots) (hcat : (st.map fun v => v.category).sum ≤ 8) (d : decode cc pc = .ok (.invokespecial index, 3)) (kx : ∀ (C : String) (q : Nat) (h' : AH), Px' C q h' → VX E cc own M Po Px X h' k n pc ls C q) (kk : ∀ (h' : AH), P h' → V E cc own M Po Px X h' k n (pc + 3) ls st) : V E cc own M Po Px X h k n pc ls (a5 :: a4 :: a3 :: a2 :: a1 :: .ref a :: st) := by
  obtain ⟨z1, z2⟩ := hz
  refine g_callI (av := [a1, a2, a3, a4, a5]) hc hk hlk hR (by rw [z1, z2]; exact hf) rfl hcat d (fun C q h' z => by rw [z1, z2]; exact kx C q h' z) (fun v h' z => by
    obtain ⟨rfl, p⟩ := z
    rw [z1, z2]
    exact kk h' p)
theorem g_I5v {index a : Nat} {cc' : ByteArray} {M' : GM} {a1 a2 a3 a4 a5 : Value} {P : AH → Prop} (hc : Ct E cc' M' [.ref a, a1, a2, a3, a4, a5] h (pV (fun h' => P h')) noX) (hk : gCi cc' M' 5) (hlk : Cond.methodLink own index M'.y ∈ lw_all) (hR : M'.rm.frames + 1 ≤ M.rm.frames ∧ 8 + (M'.nL + 11) + M'.rm.locals ≤ M.rm.locals) (hf : k + M'.rm.cells ≤ M.rm.cells ∧ n + M'.rm.slots ≤ M.rm.slots) (hcat : (st.map fun v => v.category).sum ≤ 8) (d : decode cc pc = .ok (.invokespecial index, 3)) (kk : ∀ (h' : AH), P h' → V E cc own M Po Px X h' (k + M'.rm.cells) (n + M'.rm.slots) (pc + 3) ls st) : V E cc own M Po Px X h k n pc ls (a5 :: a4 :: a3 :: a2 :: a1 :: .ref a :: st) := g_callI (av := [a1, a2, a3, a4, a5]) hc hk hlk hR hf rfl hcat d (fun _ _ _ z => z.elim) (fun v h' z => by
    obtain ⟨rfl, p⟩ := z
    exact kk h' p)
theorem g_I5vx {index a : Nat} {cc' : ByteArray} {M' : GM} {a1 a2 a3 a4 a5 : Value} {P : AH → Prop} {Px' : String → Nat → AH → Prop} (hc : Ct E cc' M' [.ref a, a1, a2, a3, a4, a5] h (pV (fun h' => P h')) Px') (hk : gCi cc' M' 5) (hlk : Cond.methodLink own index M'.y ∈ lw_all) (hR : M'.rm.frames + 1 ≤ M.rm.frames ∧ 8 + (M'.nL + 11) + M'.rm.locals ≤ M.rm.locals) (hf : k + M'.rm.cells ≤ M.rm.cells ∧ n + M'.rm.slots ≤ M.rm.slots) (hcat : (st.map fun v => v.category).sum ≤ 8) (d : decode cc pc = .ok (.invokespecial index, 3)) (kx : ∀ (C : String) (q : Nat) (h' : AH), Px' C q h' → VX E cc own M Po Px X h' (k + M'.rm.cells) (n + M'.rm.slots) pc ls C q) (kk : ∀ (h' : AH), P h' → V E cc own M Po Px X h' (k + M'.rm.cells) (n + M'.rm.slots) (pc + 3) ls st) : V E cc own M Po Px X h k n pc ls (a5 :: a4 :: a3 :: a2 :: a1 :: .ref a :: st) := g_callI (av := [a1, a2, a3, a4, a5]) hc hk hlk hR hf rfl hcat d kx (fun v h' z => by
    obtain ⟨rfl, p⟩ := z
    exact kk h' p)
end GR
