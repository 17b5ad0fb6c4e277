set_option maxRecDepth 100000
/-! CONSTRUCTORS of the systems: rows over written lists of cells -/
set_option maxRecDepth 100000
theorem va_P.perm {D : va_G} {cl : List vw_C} {V V' : va_W} {H : Heap} (p : V.Perm V') (h : va_P D cl V H) : va_P D cl V' H := by
  intro k q hk
  obtain ⟨i, hi⟩ := List.getElem?_of_mem (p.mem_iff.mpr (List.mem_of_getElem? hk))
  exact h i q hi
theorem va_D.iff {A : Nat → Prop} {V : va_W} : va_D A V ↔ V.Pairwise (fun p q => p.1 ≠ q.1) ∧ ∀ q ∈ V, A q.1 := by
  constructor
  · intro h
    refine ⟨List.pairwise_iff_getElem.mpr (fun i j hi hj hij e => ?_), fun q hq => ?_⟩
    · have := h.1 i j _ _ (List.getElem?_eq_getElem hi) (List.getElem?_eq_getElem hj) e
      omega
    · obtain ⟨i, hi⟩ := List.getElem?_of_mem hq
      exact h.2 i q hi
  · intro h
    refine ⟨fun i j p q hi hj e => ?_, fun k q hk => h.2 q (List.mem_of_getElem? hk)⟩
    obtain ⟨hi', rfl⟩ := List.getElem?_eq_some_iff.mp hi
    obtain ⟨hj', rfl⟩ := List.getElem?_eq_some_iff.mp hj
    rcases Nat.lt_trichotomy i j with l | l | l
    · exact absurd e (List.pairwise_iff_getElem.mp h.1 i j hi' hj' l)
    · exact l
    · exact absurd e.symm (List.pairwise_iff_getElem.mp h.1 j i hj' hi' l)
theorem va_D.perm {A : Nat → Prop} {V V' : va_W} (p : V.Perm V') (h : va_D A V) : va_D A V' := by
  rw [va_D.iff] at h ⊢
  exact ⟨(p.pairwise_iff (fun h e => h e.symm)).mp h.1, fun q hq => h.2 q (p.mem_iff.mpr hq)⟩
theorem g_rangeM : ∀ (l pre : va_W), (List.range' pre.length l.length).filterMap (fun i => (pre ++ l)[i]?) = l := by
  intro l
  induction l with
  | nil => intro pre; rfl
  | cons a l ih =>
    intro pre
    rw [List.length_cons, List.range'_succ, List.filterMap_cons]
    have h0 : (pre ++ a :: l)[pre.length]? = some a := by rw [List.getElem?_append_right (Nat.le_refl _), Nat.sub_self]; rfl
    rw [h0]
    have h1 := ih (pre ++ [a])
    rw [List.length_append, List.length_singleton, List.append_assoc] at h1
    exact congrArg (a :: ·) h1
theorem g_pickP (is : List Nat) {cs cs' : va_W} (h : is.filterMap (fun i => cs[i]?) = cs') (hp : is.Perm (List.range cs.length)) : cs.Perm cs' := by
  have e : (List.range cs.length).filterMap (fun i => cs[i]?) = cs := by
    rw [List.range_eq_range']
    exact g_rangeM cs []
  rw [← h]
  have := List.Perm.filterMap (fun i => cs[i]?) hp.symm
  rw [e] at this
  exact this
section
variable {Γ : gT} {K : gK} {own : String} {cc : ByteArray} {nL : Nat} {rm : Room} {i j pc : Nat} {w : Wd} {L V : va_W} {ls : List (Nat × Value)} {st : List Value}
theorem g_perm {V' : va_W} (p : V.Perm V') (k : gJ Γ K i j V' pc ls st) : gJ Γ K i j V pc ls st := fun H locs la hP hD hS hl => k H locs la (hP.perm p) (hD.perm p) hS hl
theorem g_front {cs : va_W} {x : Nat × va_E} (k : gJ Γ K i j ((cs ++ [x]) ++ L) pc ls st) : gJ Γ K i j ((cs ++ L) ++ [x]) pc ls st := g_perm (by rw [List.append_assoc, List.append_assoc]; exact List.Perm.append_left _ List.perm_append_comm) k
theorem g_lastc {x : Nat × va_E} (k : gJ Γ K i j (x :: V) pc ls st) : gJ Γ K i j (V ++ [x]) pc ls st := g_perm (List.perm_append_singleton x V) k
theorem g_rot {cs t : va_W} (k : gJ Γ K i j ((cs ++ t) ++ L) pc ls st) : gJ Γ K i j (t ++ (cs ++ L)) pc ls st := g_perm (by rw [← List.append_assoc]; exact List.Perm.append_right _ List.perm_append_comm) k
theorem g_newo (C : gC Γ K own cc nL rm) {Cn : String} {T : u_T} {N ci x0 : Nat} (ty : Nat → FieldType) (hty : ∀ k, k < N → parseFieldDescriptor (T k).2.2.1 = some (ty k)) (hc : gCl[ci]? = some (Cn, T, N)) (hin : ∀ w ∈ u_ws Cn T N, w ∈ lw_all) (hcl : Cond.classLink own x0 Cn ∈ lw_all) (hi : Cond.instantiable Cn N ∈ lw_all) (hini : Cond.initialized Cn ∈ lw_all) {fs : List Value} (hfs : ∀ j, j < N → defaultValue (ty j) = vp_V fs j) (hb : i + 1 ≤ rm.cells ∧ j + N ≤ rm.slots) (hdg : decode cc pc = .ok (.new x0, 3))
    (k : ∀ q : Nat, gJ Γ K (i + 1) (j + N) (V ++ [(q, .inr (ci, fs))]) (pc + 3) ls (.ref q :: st)) : gJ Γ K i j V pc ls st := by
  intro H locs la hP hD hS hl
  exact va_new (ci := ci) (fs := fs) C.x C.b C.t hin ty hty C.o (C.t _ hcl) (C.t _ hi) (C.t _ hini) C.k hP hD hS C.a hc hfs (by rw [C.r]; exact hb.1) (by rw [C.r]; exact hb.2) hdg (fun q H1 hP1 hD1 hS1 => k q H1 locs la hP1 hD1 hS1 hl)
theorem g_sameA {s : State} {ty : FieldType} {c1 c2 : ClassId} (hn : ∀ C, ty ≠ .object C) (h1 : va_RA s c1 ty) (h2 : va_RA s c2 ty) : c1 = c2 := by
  cases ty with
  | object C => exact absurd rfl (hn C)
  | _ => exact Option.some.inj ((show s.vm.findClass _ = some c1 from h1).symm.trans (show s.vm.findClass _ = some c2 from h2))
theorem g_newaI (C : gC Γ K own cc nL rm) {n : Int32} (N' : Nat) (hn : ¬ n < 0) (hN : n.toNatClampNeg = N') (hbytes : N' * componentBytes .int ≤ 536870912) (hb : i + 1 ≤ rm.cells ∧ j + N' ≤ rm.slots) (hdg : decode cc pc = .ok (.newarray .int, 2)) (k : ∀ q : Nat, gJ Γ K (i + 1) (j + N') (V ++ [(q, .inl (K.2.1 0, N', .inl (fun _ => 0)))]) (pc + 2) ls (.ref q :: st)) : gJ Γ K i j V pc ls (.int n :: st) := by
  intro H locs la hP hD hS hl
  refine va_newa (atype := .int) (ty := .int) (a0 := (N', .inl (fun _ => 0))) C.x C.b (C.t _ q187) rfl C.k hP hD hS C.a (fun cA => rfl) hn hN hbytes (by rw [C.r]; exact hb.1) (by rw [C.r]; exact hb.2) hdg (fun q cA H1 hK1 hP1 hD1 hS1 => ?_)
  have e : cA = K.2.1 0 := g_sameA (fun _ h => by cases h) ((hK1.2 4 _ rfl).2) ((C.k.2 0 _ rfl).2)
  subst e
  exact k q H1 locs la hP1 hD1 hS1 hl
theorem g_newaJ (C : gC Γ K own cc nL rm) {n : Int32} (N' : Nat) (hn : ¬ n < 0) (hN : n.toNatClampNeg = N') (hbytes : N' * componentBytes .long ≤ 536870912) (hb : i + 1 ≤ rm.cells ∧ j + N' ≤ rm.slots) (hdg : decode cc pc = .ok (.newarray .long, 2)) (k : ∀ q : Nat, gJ Γ K (i + 1) (j + N') (V ++ [(q, .inl (K.2.1 1, N', .inr (.inl (fun _ => 0))))]) (pc + 2) ls (.ref q :: st)) : gJ Γ K i j V pc ls (.int n :: st) := by
  intro H locs la hP hD hS hl
  refine va_newa (atype := .long) (ty := .long) (a0 := (N', .inr (.inl (fun _ => 0)))) C.x C.b (C.t _ q188) rfl C.k hP hD hS C.a (fun cA => rfl) hn hN hbytes (by rw [C.r]; exact hb.1) (by rw [C.r]; exact hb.2) hdg (fun q cA H1 hK1 hP1 hD1 hS1 => ?_)
  have e : cA = K.2.1 1 := g_sameA (fun _ h => by cases h) ((hK1.2 4 _ rfl).2) ((C.k.2 1 _ rfl).2)
  subst e
  exact k q H1 locs la hP1 hD1 hS1 hl
theorem g_newaB (C : gC Γ K own cc nL rm) {n : Int32} (N' : Nat) (hn : ¬ n < 0) (hN : n.toNatClampNeg = N') (hbytes : N' * componentBytes .byte ≤ 536870912) (hb : i + 1 ≤ rm.cells ∧ j + N' ≤ rm.slots) (hdg : decode cc pc = .ok (.newarray .byte, 2)) (k : ∀ q : Nat, gJ Γ K (i + 1) (j + N') (V ++ [(q, .inl (K.2.1 2, N', .inl (fun _ => 0)))]) (pc + 2) ls (.ref q :: st)) : gJ Γ K i j V pc ls (.int n :: st) := by
  intro H locs la hP hD hS hl
  refine va_newa (atype := .byte) (ty := .byte) (a0 := (N', .inl (fun _ => 0))) C.x C.b (C.t _ q186) rfl C.k hP hD hS C.a (fun cA => rfl) hn hN hbytes (by rw [C.r]; exact hb.1) (by rw [C.r]; exact hb.2) hdg (fun q cA H1 hK1 hP1 hD1 hS1 => ?_)
  have e : cA = K.2.1 2 := g_sameA (fun _ h => by cases h) ((hK1.2 4 _ rfl).2) ((C.k.2 2 _ rfl).2)
  subst e
  exact k q H1 locs la hP1 hD1 hS1 hl
theorem g_newq (C : gC Γ K own cc nL rm) {x0 : Nat} (hcl : Cond.classLink own x0 "OneBears$Clause" ∈ lw_all) {n : Int32} (N' : Nat) (hn : ¬ n < 0) (hN : n.toNatClampNeg = N') (hbytes : N' * 4 ≤ 536870912) (hb : i + 1 ≤ rm.cells ∧ j + N' ≤ rm.slots) (hdg : decode cc pc = .ok (.anewarray x0, 3)) (k : ∀ q : Nat, gJ Γ K (i + 1) (j + N') (V ++ [(q, .inl (K.2.1 3, N', .inr (.inr (.inr (.inr (fun _ => none))))))]) (pc + 3) ls (.ref q :: st)) : gJ Γ K i j V pc ls (.int n :: st) := by
  intro H locs la hP hD hS hl
  refine va_newq C.x C.b C.o (C.t _ hcl) C.e.2.2.2.1 C.k hP hD hS C.a hn hN hbytes (by rw [C.r]; exact hb.1) (by rw [C.r]; exact hb.2) hdg (fun q cA H1 hK1 hP1 hD1 hS1 => ?_)
  have e : cA = K.2.1 3 := by
    obtain ⟨-, -, -, -, -, h1⟩ := (hK1.2 4 _ rfl).2
    obtain ⟨-, -, -, -, -, h2⟩ := (C.k.2 3 _ rfl).2
    exact Option.some.inj (h1.symm.trans h2)
  subst e
  exact k q H1 locs la hP1 hD1 hS1 hl
theorem g_makeFault (C : gC Γ K RX1 cc nL rm) (hl0 : Γ.l.stackTraces = false) (hR : 4 < rm.frames ∧ (st.map fun v => v.category).sum + 68 ≤ rm.locals) (hb : i + 1 ≤ rm.cells ∧ j + 6 ≤ rm.slots) (d0 : decode cc pc = .ok (.new 7, 3)) (d3 : decode cc (pc + 3) = .ok (.dup, 1)) (d4 : decode cc (pc + 4) = .ok (.invokespecial 9, 3))
    (k : ∀ q : Nat, gJ Γ K (i + 1) (j + 6) (V ++ [(q, .inr (3, []))]) (pc + 7) ls (.ref q :: st)) : gJ Γ K i j V pc ls st := by
  intro H locs la hP hD hS hl
  refine g_makeN (own := "OneBears") (cls := "OneBears$Fault") (names := ["java/lang/Exception"]) (ik := 7) (ic := 9) (host := "OneBears") C.x C.b hl0 C.o (by decide +kernel) (by decide +kernel) (C.t _ q111) (C.t _ q81) (va_Nw.use rfl (C.e.2.1 _ nm_X1_9)) ?_ (by decide +kernel) C.e.2.2.2.2.2.2.2.2.1 C.e.2.2.2.2.2.2.2.2.2.1 hS (by rw [hl.1, C.n, C.l]) d0 d3 d4 C.k hP hD C.a (ci := 3) (T0 := TX2) rfl (by rw [C.r]; exact hR.1) (by rw [C.r]; exact hR.2) (by rw [C.r]; exact hb.1) (by rw [C.r]; exact hb.2) (fun q H1 hP1 hD1 hS1 => k q H1 locs la hP1 hD1 hS1 hl)
  refine vx_hat (B := .castable "OneBears$Fault" "OneBears$Fault" :: gND.map Cond.declares) (fun w hw => C.t _ (?_)) (by decide +kernel) (vx_c (va_Nw.use rfl C.e.2.2.2.2.2.2.2.2.2.2.1) (g_decl C))
  exact (show ∀ w ∈ ((Bundle.throwableAtoms ++ Bundle.chain0Atoms "OneBears$Fault" ["java/lang/Exception"] ++ g_rest "OneBears$Fault").filter vx_no).filter goodWord, w ∈ lw_all from by
    have h : (((Bundle.throwableAtoms ++ Bundle.chain0Atoms "OneBears$Fault" ["java/lang/Exception"] ++ g_rest "OneBears$Fault").filter vx_no).filter goodWord).all (fun w => decide (w ∈ lw_all)) = true := by decide +kernel
    exact fun w hw => of_decide_eq_true (List.all_eq_true.mp h w hw)) w hw
end
