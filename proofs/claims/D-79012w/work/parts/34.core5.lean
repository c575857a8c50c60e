/-! G LAYER, FURTHER: fields by another name, arraycopy, class objects; elements of lists -/
set_option maxRecDepth 100000
section GR5
variable {E : GE} {cc : ByteArray} {own : String} {M : GM} {Po : Option Value → AH → Prop} {Px : String → Nat → AH → Prop} {X : GX} {h : AH} {k n pc : Nat} {ls : List (Option Value)} {st : List Value}
theorem g_getS {C ref : String} {T : u_T} {N ci index a t k0 : Nat} {fs : List Value} {v : Value} (ha : h a = some (t, gO ci fs)) (hin : ∀ w ∈ u_ws C T N, w ∈ lw_all) (hlink : Cond.fieldLink own index ref (T k0).2.1 (T k0).2.2.1 ∈ lw_all) (hsm : Cond.sameField ref (T k0).1 (T k0).2.1 (T k0).2.2.1 ∈ lw_all) (hc : gCl[ci]? = some (C, T, N)) (hk : k0 < N) (hv : fs[k0]? = some v) (d : decode cc pc = .ok (.getfield index, 3)) (kk : V E cc own M Po Px X h k n (pc + 3) ls (v :: st)) : V E cc own M Po Px X h k n pc ls (.ref a :: st) := by
  intro O H locs la hI hS hl hL
  obtain ⟨h0, ws, hP, hD, hm⟩ := id hI
  obtain ⟨q0, hq⟩ := g_in (E := E) (H := H) hm ha
  exact va_get (D := E.D) (C := C) (T := T) (N := N) O.hx O.hb O.hts hin O.hown O.hK hP q0 hq hc k0 hk (O.hts _ hlink) (fun x h9 => u_same (O.hts _ hsm) x h9) hv d (kk O H locs la hI hS hl hL)
theorem g_putS {C ref : String} {T : u_T} {N ci index a t k0 : Nat} {fs : List Value} {v : Value} {ty0 : Nat → FieldType} (ha : h a = some (t, gO ci fs)) (hin : ∀ w ∈ u_ws C T N, w ∈ lw_all) (hlink : Cond.fieldLink own index ref (T k0).2.1 (T k0).2.2.1 ∈ lw_all) (hsm : Cond.sameField ref (T k0).1 (T k0).2.1 (T k0).2.2.1 ∈ lw_all) (hty : ∀ k, k < N → parseFieldDescriptor (T k).2.2.1 = some (ty0 k)) (hnm : ∀ a, a < N → ∀ b, b < N → a ≠ b → (T a).2.1 ≠ (T b).2.1) (hc : gCl[ci]? = some (C, T, N)) (hk : k0 < N) (hfin : (T k0).2.2.2 = false) (hn2 : narrow (ty0 k0) v = v) (hfit : fits (ty0 k0) v = true) (hlen : k0 < fs.length) (d : decode cc pc = .ok (.putfield index, 3)) (kk : V E cc own M Po Px X (g_up h a (t, gO ci (fs.set k0 v))) k n (pc + 3) ls st) : V E cc own M Po Px X h k n pc ls (v :: .ref a :: st) := by
  intro O H locs la hI hS hl hL
  obtain ⟨h0, ws, hP, hD, hm⟩ := id hI
  obtain ⟨q0, hq⟩ := g_in (E := E) (H := H) hm ha
  exact va_put (D := E.D) (C := C) (T := T) (N := N) O.hx O.hb O.hts hin ty0 hty hnm O.hown O.hK hP hD hS q0 hq hc k0 hk (O.hts _ hlink) (fun x h9 => u_same (O.hts _ hsm) x h9) hfin (hty k0 hk) hn2 hfit hlen d (fun H1 locs1 hP1 hD1 hS1 => kk O H1 locs1 la ⟨g_old O.hS0 hS1, _, hP1, hD1, g_put_in hD hm hq⟩ hS1 hl hL)
/-- n cells of f from sp on, laid into g from dp on -/
abbrev cpN {α : Type} (f g : Nat → α) (sp dp n : Nat) : Nat → α := va_cpy f g sp dp n
theorem nI_clampP {i : Nat} (h : i < 2147483648) : (nI i).toNatClampNeg = i := nI_clamp h
theorem cpy_I (F G : Nat → Nat) (sp dp n : Nat) : va_cpy (fun j => nI (F j)) (fun j => nI (G j)) sp dp n = fun j => nI (cpN F G sp dp n j) := by
  funext j
  unfold cpN va_cpy
  split <;> rfl
def gCp (own : String) (index : Nat) : Prop := Cond.methodLink own index arraycopyName ∈ lw_all ∧ Cond.native arraycopyName ∈ lw_all ∧ Cond.static arraycopyName ∈ lw_all ∧ Cond.initialized "java/lang/System" ∈ lw_all
theorem gcp_loc (hlo : (st.map fun v => v.category).sum + 24 ≤ M.rm.locals) : (st.map fun v => v.category).sum + (nativeFrameWords "java/lang/System" "arraycopy" 5 + 11) ≤ M.rm.locals := by
  have e : nativeFrameWords "java/lang/System" "arraycopy" 5 ≤ 13 := by decide +kernel
  omega
/-- System.arraycopy between int arrays (told by j: 0) or arrays of bytes (3) or booleans (2) -/
theorem g_copyI {index j a0 a t0 t1 n0 n1 sp dp m : Nat} {F G : Nat → Nat} {ty : FieldType} (hC : gCp own index) (ha0 : h a0 = some (t0, .inl (E.dA j, n0, .inl fun i => nI (F i)))) (ha : h a = some (t1, .inl (E.dA j, n1, .inl fun i => nI (G i)))) (ht : (gTys E)[j]? = some (E.dA j, ty)) (hprim : refKind ty = false) (hfit : ∀ i, i < m → fits ty (.int (nI (F (sp + i)))) = true) (h4 : sp + m ≤ n0) (h5 : dp + m ≤ n1) (hb : n0 < 2147483648 ∧ n1 < 2147483648)
    (hfr : 1 ≤ M.rm.frames) (hlo : (st.map fun v => v.category).sum + 24 ≤ M.rm.locals) (d : decode cc pc = .ok (.invokestatic index, 3)) (kk : V E cc own M Po Px X (g_up h a (t1, .inl (E.dA j, n1, .inl fun i => nI (cpN F G sp dp m i)))) k n (pc + 3) ls st) : V E cc own M Po Px X h k n pc ls (.int (nI m) :: .int (nI dp) :: .ref a :: .int (nI sp) :: .ref a0 :: st) := by
  intro O H locs la hI hS hl hL
  obtain ⟨h0, ws, hP, hD, hm⟩ := id hI
  obtain ⟨q0, hq0⟩ := g_in (E := E) (H := H) hm ha0
  obtain ⟨q1, hq1⟩ := g_in (E := E) (H := H) hm ha
  refine va_copyi O.hx O.hb (hl.1.trans O.hml.symm).symm O.hown (O.hts _ hC.1) (O.hts _ hC.2.1) (O.hts _ hC.2.2.1) (O.hts _ hC.2.2.2) O.hK hP hD hS q0 q1 j j hq0 hq1 ht ht hprim (nI_pos (by omega)) (nI_pos (by omega)) (nI_pos (by omega)) (by rw [nI_clamp (by omega), nI_clamp (by omega)]; exact h4) (by rw [nI_clamp (by omega), nI_clamp (by omega)]; exact h5) (fun i hi => ?_) hfr (gcp_loc hlo) d (fun H1 locs1 hP1 hD1 hS1 => ?_)
  · rw [nI_clamp (by omega)] at hi
    rw [nI_clamp (by omega)]
    exact hfit i hi
  · rw [nI_clamp (by omega), nI_clamp (by omega), nI_clamp (by omega), cpy_I] at hP1 hD1
    exact kk O H1 locs1 la ⟨g_old O.hS0 hS1, _, hP1, hD1, g_put_in hD hm hq1⟩ hS1 hl hL
/-- an object that may lie in an array of Objects -/
def gOb (E : GE) (h : AH) (v : Nat) : Prop := ∃ C : String, gRv E h v C ∧ Cond.castable C "java/lang/Object" ∈ lw_tbl
theorem gOk.any (O : gOk E cc own M X) {H : Heap} (hI : gI E h H) {v : Nat} (hv : gOb E h v) : va_Any "java/lang/Object" X.s H v := by
  obtain ⟨C, hr, hc⟩ := hv
  obtain ⟨cell, g1, g2, g3⟩ := O.rv hI hr
  obtain ⟨kC, hkC, -⟩ := Vm.findClass_spec g3
  refine ⟨cell, g1, g2, ⟨kC, hkC⟩, fun comp hcomp => ?_⟩
  obtain ⟨c1, t1, f1, f2, f3⟩ := Cond.castable_spec (args := #[]) (O.cast hc)
  cases f1.symm.trans g3
  cases f2.symm.trans hcomp
  exact f3
/-- System.arraycopy between arrays of Objects -/
theorem g_copyQ {index a0 a t0 t1 n0 n1 sp dp m : Nat} {f g : Nat → Option Nat} (hC : gCp own index) (ha0 : h a0 = some (t0, gAR E 5 n0 f)) (ha : h a = some (t1, gAR E 5 n1 g)) (hel : ∀ i, i < m → ∀ y, f (sp + i) = some y → gOb E h y) (h4 : sp + m ≤ n0) (h5 : dp + m ≤ n1) (hb : n0 < 2147483648 ∧ n1 < 2147483648)
    (hfr : 1 ≤ M.rm.frames) (hlo : (st.map fun v => v.category).sum + 24 ≤ M.rm.locals) (d : decode cc pc = .ok (.invokestatic index, 3)) (kk : V E cc own M Po Px X (g_up h a (t1, gAR E 5 n1 (cpN f g sp dp m))) k n (pc + 3) ls st) : V E cc own M Po Px X h k n pc ls (.int (nI m) :: .int (nI dp) :: .ref a :: .int (nI sp) :: .ref a0 :: st) := by
  intro O H locs la hI hS hl hL
  obtain ⟨h0, ws, hP, hD, hm⟩ := id hI
  obtain ⟨q0, hq0⟩ := g_in (E := E) (H := H) hm ha0
  obtain ⟨q1, hq1⟩ := g_in (E := E) (H := H) hm ha
  refine va_copyM (E0 := "java/lang/Object") (E1 := "java/lang/Object") O.hx O.hb (hl.1.trans O.hml.symm).symm O.hown (O.hts _ hC.1) (O.hts _ hC.2.1) (O.hts _ hC.2.2.1) (O.hts _ hC.2.2.2) O.hK hP hD hS q0 q1 5 5 hq0 hq1 rfl rfl (nI_pos (by omega)) (nI_pos (by omega)) (nI_pos (by omega)) (by rw [nI_clamp (by omega), nI_clamp (by omega)]; exact h4) (by rw [nI_clamp (by omega), nI_clamp (by omega)]; exact h5) (fun i hi y hy => ?_) hfr (gcp_loc hlo) d (fun H1 locs1 hP1 hD1 hS1 => ?_)
  · rw [nI_clamp (by omega)] at hi
    rw [nI_clamp (by omega)] at hy
    exact O.any hI (hel i hi y hy)
  · rw [nI_clamp (by omega), nI_clamp (by omega), nI_clamp (by omega)] at hP1 hD1
    exact kk O H1 locs1 la ⟨g_old O.hS0 hS1, _, hP1, hD1, g_put_in hD hm hq1⟩ hS1 hl hL
/-- any object is laid into an array of Objects -/
theorem g_aastA {a t N i v : Nat} {f : Nat → Option Nat} (ha : h a = some (t, gAR E 5 N f)) (hi : i < N) (hN : N < 2147483648) (hr : gOb E h v) (d : decode cc pc = .ok (.aastore, 1)) (kk : V E cc own M Po Px X (g_up h a (t, gAR E 5 N (nup f i (some v)))) k n (pc + 1) ls st) : V E cc own M Po Px X h k n pc ls (.ref v :: .int (nI i) :: .ref a :: st) := by
  obtain ⟨C, h1, h2⟩ := hr
  exact g_aast ha rfl hi hN h1 h2 d kk
/-! class objects -/
def gMi (E : GE) (C : String) (mi : Nat) : Prop := va_Mi C mi E.S0
theorem gE.mi {E : GE} (hE : gE E) {C : String} (h : gLf (Cond.isRef (.mirror C))) : ∃ mi, gMi E C mi := va_Mi.of (hE.nr h)
theorem g_ldcM {index mi : Nat} {C : String} (hlk : Cond.classLink own index C ∈ lw_all) (hM : gMi E C mi) (d : decode cc pc = .ok (.ldc index, 2)) (kk : V E cc own M Po Px X h k n (pc + 2) ls (.ref mi :: st)) : V E cc own M Po Px X h k n pc ls st := fun O H locs la hI hS hl hL => va_ldcM O.hx O.hb O.hown (O.hts _ hlk) (va_Mi.moved O.hW.alike hM) d (kk O H locs la hI hS hl hL)
theorem g_getC {index a t N mi : Nat} {f : Nat → Option Nat} (ha : h a = some (t, gAR E 5 N f)) (hlk : Cond.methodLink own index ⟨"java/lang/Object", "getClass", "()Ljava/lang/Class;"⟩ ∈ lw_all) (hdc : Cond.declares ⟨"java/lang/Object", "getClass", "()Ljava/lang/Class;"⟩ ∈ lw_tbl) (hse : Cond.selects "[Ljava/lang/Object;" ⟨"java/lang/Object", "getClass", "()Ljava/lang/Class;"⟩ ⟨"java/lang/Object", "getClass", "()Ljava/lang/Class;"⟩ ∈ lw_all) (hin : Cond.instanceMethod ⟨"java/lang/Object", "getClass", "()Ljava/lang/Class;"⟩ ∈ lw_all) (hnat : Cond.native ⟨"java/lang/Object", "getClass", "()Ljava/lang/Class;"⟩ ∈ lw_all) (hM : gMi E "[Ljava/lang/Object;" mi)
    (hfr : 1 ≤ M.rm.frames) (hlo : (st.map fun v => v.category).sum + 14 ≤ M.rm.locals) (d : decode cc pc = .ok (.invokevirtual index, 3)) (kk : V E cc own M Po Px X h k n (pc + 3) ls (.ref mi :: st)) : V E cc own M Po Px X h k n pc ls (.ref a :: st) := by
  intro O H locs la hI hS hl hL
  obtain ⟨h0, ws, hP, hD, hm⟩ := id hI
  obtain ⟨q0, hq⟩ := g_in (E := E) (H := H) hm ha
  have hnm := va_nmO (nm := "[Ljava/lang/Object;") (O.hK.2 5 (E.dA 5, .object "java/lang/Object") rfl).2 (by decide +kernel)
  exact va_getC O.hx O.hb (hl.1.trans O.hml.symm).symm O.hown (O.hts _ hlk) (va_Nw.use rfl (va_Nw.warmD O.hW (O.nw rfl hdc))) (O.hts _ hse) (O.hts _ hin) (O.hts _ hnat) (va_Mi.moved O.hW.alike hM) ⟨_, hP q0 _ hq, rfl, hnm⟩ hfr hlo d (kk O H locs la hI hS hl hL)
/-- a null reference is compared with another -/
theorem g_acmp_eq {rx ry : Option Nat} {off : Int} {tgt : Nat} (d : decode cc pc = .ok (.if_acmp .eq off, 3)) (ht : (pc : Int) + off = (tgt : Int)) (kt : rx = ry → V E cc own M Po Px X h k n tgt ls st) (kf : ¬ rx = ry → V E cc own M Po Px X h k n (pc + 3) ls st) : V E cc own M Po Px X h k n pc ls (va_rf ry :: va_rf rx :: st) := fun O H locs la hI hS hl hL => lv_acmp_eq O.hx O.hb d ht (fun z => kt z O H locs la hI hS hl hL) (fun z => kf z O H locs la hI hS hl hL)
end GR5
/-! frames and retagging -/
theorem gRv.fr {E : GE} {h h' : AH} {a : Nat} {C : String} {P : Nat → Prop} (hf : Fr P h h') (hr : gRv E h a C) (hp : ∀ t e, h a = some (t, e) → ¬ P t) : gRv E h' a C := by
  rcases hr with ⟨t, ci, fs, q, h1, h2, h3⟩ | hr
  · exact Or.inl ⟨t, ci, fs, q, hf _ _ _ h1 (hp _ _ h1), h2, h3⟩
  · exact Or.inr hr
theorem gOb.of {E : GE} {h : AH} {a t ci : Nat} {C : String} {fs : List Value} {q : vw_C} (ha : h a = some (t, gO ci fs)) (hc : gCl[ci]? = some q) (hq : q.1 = C) (hca : Cond.castable C "java/lang/Object" ∈ lw_tbl) : gOb E h a := ⟨C, gRv.g ha hc hq, hca⟩
theorem V.retag {E : GE} {cc : ByteArray} {own : String} {M : GM} {Po : Option Value → AH → Prop} {Px : String → Nat → AH → Prop} {X : GX} {h h' : AH} {k n pc : Nat} {ls : List (Option Value)} {st : List Value} (hs : ∀ a t e, h' a = some (t, e) → ∃ t', h a = some (t', e)) (kk : V E cc own M Po Px X h' k n pc ls st) : V E cc own M Po Px X h k n pc ls st := by
  intro O H locs la hI hS hl hL
  obtain ⟨h0, ws, hP, hD, hm⟩ := hI
  refine kk O H locs la ⟨h0, ws, hP, hD, fun a t e z => ?_⟩ hS hl hL
  obtain ⟨t', z'⟩ := hs a t e z
  exact hm a t' e z'
/-- the room may be told larger than it is -/
theorem V.wide {E : GE} {cc : ByteArray} {own : String} {M : GM} {Po : Option Value → AH → Prop} {Px : String → Nat → AH → Prop} {X : GX} {h : AH} {k n k' n' pc : Nat} {ls : List (Option Value)} {st : List Value} (hk : k ≤ k') (hn : n ≤ n') (kk : V E cc own M Po Px X h k' n' pc ls st) : V E cc own M Po Px X h k n pc ls st := by
  intro O H locs la hI hS hl hL
  exact W.widen hk hn (kk O H locs la hI hS hl hL)

