set_option maxRecDepth 100000
/-! THROWING: contracts gX.. (return or throw the Fault; at most mc cells made), their entries and calls; gH.. (handlers: they return) -/
set_option maxRecDepth 100000
/-- q of class E is thrown over the frame -/
def gY (Γ : gT) (K : gK) (E : String) (i j : Nat) (V : va_W) (pc : Nat) (ls : List (Nat × Value)) (st : List Value) (q : Nat) : Prop :=
  ∀ (H : Heap) (locs : List Loc) (la : Array Slot) (ce : Cell), va_P K.1 gCl V H → va_D Γ.A V → va_S Γ.A Γ.s.heap H locs → lv_has la Γ.n ls → H[q]? = some ce → ce.vm = .none → Γ.s.vm.findClass E = some ce.cls → vx_W Γ.p Γ.l Γ.e Γ.R Γ.s Γ.m Γ.a Γ.b Γ.h Γ.c H locs i j Γ.Q (F0 Γ.m pc la st) q
def gBX (K : gK) (V : va_W) (sz : Nat) (E0 E : String) (u : va_W) (t : State) : Prop := E = E0 ∧ gB K V sz u t
/-- a run that throws E0 comes to its end so -/
def gXTE (Γ : gT) (K : gK) (E0 : String) (postX : va_W → Prop) (mc : Nat) : Prop := ∀ (i : Nat) (V1 : va_W) (pc : Nat) (ls : List (Nat × Value)) (st : List Value) (q : Nat), i ≤ mc → postX V1 → gY Γ K E0 i (4 * i) V1 pc ls st q
abbrev gXT (Γ : gT) (K : gK) (postX : va_W → Prop) (mc : Nat) : Prop := gXTE Γ K "OneBears$Fault" postX mc
def gXiR (Γ : gT) (K : gK) (cc : ByteArray) (rt : Option FieldType) (post : Int32 → va_W → Prop) (mc : Nat) : Prop := ∀ (i : Nat) (v : Int32) (V1 : va_W) (pc : Nat) (ls : List (Nat × Value)) (ty : FieldType), i ≤ mc → rt = some ty → narrow ty (.int v) = .int v → decode cc pc = .ok (.ireturn, 1) → post v V1 → gJ Γ K i (4 * i) V1 pc ls [.int v]
def gXvR (Γ : gT) (K : gK) (cc : ByteArray) (rt : Option FieldType) (post : va_W → Prop) (mc : Nat) : Prop := ∀ (i : Nat), i ≤ mc → rt = none → ∀ (V1 : va_W) (pc : Nat) (ls : List (Nat × Value)), decode cc pc = .ok (.return_, 1) → post V1 → gJ Γ K i (4 * i) V1 pc ls []
def gXqR (Γ : gT) (K : gK) (cc : ByteArray) (rt : Option FieldType) (post : Option Nat → va_W → Prop) (mc : Nat) : Prop := ∀ (i : Nat) (v : Option Nat) (V1 : va_W) (pc : Nat) (ls : List (Nat × Value)) (cn : String), i ≤ mc → rt = some (.object cn) → decode cc pc = .ok (.areturn, 1) → post v V1 → gJ Γ K i (4 * i) V1 pc ls [va_rf v]
section
variable {Γ : gT} {K : gK} {own : String} {cc : ByteArray} {nL : Nat} {rm : Room} {i j pc : Nat} {w : Wd} {L V : va_W} {ls : List (Nat × Value)} {st : List Value}
theorem g_stk {st' : List Value} (h : st = st') (k : gJ Γ K i j V pc ls st') : gJ Γ K i j V pc ls st := h ▸ k
theorem g_slots {i' j' : Nat} (h : i = i') (h2 : j = j') (k : gJ Γ K i' j' V pc ls st) : gJ Γ K i j V pc ls st := h ▸ h2 ▸ k
theorem g_widen {i' j' : Nat} (h : i ≤ i') (h2 : j ≤ j') (k : gJ Γ K i' j' V pc ls st) : gJ Γ K i j V pc ls st := fun H locs la hP hD hS hl => W.widen h h2 (k H locs la hP hD hS hl)
theorem g_athrow (C : gC Γ K own cc nL rm) {E Cn : String} {T : u_T} {N ci q qi : Nat} {fs : List Value} (hc : gCl[ci]? = some (Cn, T, N)) (he : V[qi]? = some (q, .inr (ci, fs))) (hdg : decode cc pc = .ok (.athrow, 1)) (hE : Cn = E) (k : gY Γ K E i j V pc ls st q) : gJ Γ K i j V pc ls (.ref q :: st) := by
  intro H locs la hP hD hS hl
  obtain ⟨cell, h1, h2, h3⟩ := va_recv C.k hP hc he
  have h4 : cell.vm = .none := by
    obtain ⟨r, -, cell', g1, g2, g3, -⟩ := hP qi _ he
    cases h1.symm.trans g1
    exact g3
  exact vx_athrow C.x C.b hdg (k H locs la cell hP hD hS hl h1 h4 (hE ▸ h3))
/-- a new moving object: a cell within the budget -/
theorem g_new (C : gC Γ K own cc nL rm) {Cn : String} {T : u_T} {N ci x0 : Nat} (ty : Nat → FieldType) (hty : ∀ k, k < N → parseFieldDescriptor (T k).2.2.1 = some (ty k)) (hc : gCl[ci]? = some (Cn, T, N)) (hin : ∀ w ∈ u_ws Cn T N, w ∈ lw_all) (hcl : Cond.classLink own x0 Cn ∈ lw_all) (hi : Cond.instantiable Cn N ∈ lw_all) (hini : Cond.initialized Cn ∈ lw_all) {fs : List Value} (hfs : ∀ j, j < N → defaultValue (ty j) = vp_V fs j) (hN : N ≤ 4) {mc : Nat} (hm : rm.cells = mc ∧ rm.slots = 4 * mc) (hb : i + 1 ≤ mc) (hdg : decode cc pc = .ok (.new x0, 3))
    (k : ∀ q : Nat, gJ Γ K (i + 1) (4 * (i + 1)) (V ++ [(q, .inr (ci, fs))]) (pc + 3) ls (.ref q :: st)) : gJ Γ K i (4 * i) V pc ls st := by
  intro H locs la hP hD hS hl
  refine va_new (ci := ci) (fs := fs) C.x C.b C.t hin ty hty C.o (C.t _ hcl) (C.t _ hi) (C.t _ hini) C.k hP hD hS C.a hc hfs (by rw [C.r, hm.1]; exact hb) (by rw [C.r, hm.2]; omega) hdg (fun q H1 hP1 hD1 hS1 => ?_)
  exact W.widen (Nat.le_refl _) (by omega) (k q H1 locs la hP1 hD1 hS1 hl)
def gXiE (E0 : String) (l : Launch) (K : gK) (y : MethodName) (cc : ByteArray) (nL : Nat) (rt : Option FieldType) (rm : Room) (av : List Value) (V : va_W) (post : Int32 → va_W → Prop) (postX : va_W → Prop) (mc : Nat) : Prop := ∀ sz : Nat, vx_Met l y (ws_ y cc nL rt) rm (gPc K av V sz) (va_Qi post (gB K V sz) (va_A V sz)) (vx_X postX (gBX K V sz E0) (va_A V sz)) mc (4 * mc) (va_A V sz)
abbrev gXi := gXiE "OneBears$Fault"
theorem g_inXI {E0 : String} {l : Launch} {y : MethodName} {rt : Option FieldType} {av : List Value} {post : Int32 → va_W → Prop} {postX : va_W → Prop} {mc : Nat} {ls0 : List (Nat × Value)} (hy : plainName y.cls = true) (hlen : (lg_sl av).length ≤ nL) (hls : lv_args 0 av = ls0) (hrc : rm.cells = mc) (hrs : rm.slots = 4 * mc)
    (body : ∀ Γ : gT, Γ.l = l → gC Γ K y.cls cc nL rm → (Γ.h.name = y.name) → gXiR Γ K cc rt post mc → gXTE Γ K E0 postX mc → gJ Γ K 0 0 V 0 ls0 []) : gXiE E0 l K y cc nL rt rm av V post postX mc := by
  intro sz
  refine vx_ofW (cc := cc) (maxL := nL) (ret := rt) hy rfl ?_
  intro p e s m args below meth c s₁ B hml htab hv
  obtain ⟨rfl, hsz, hP, hK, hD0, hE⟩ := hv
  have hts0 := atoms_spec (ws := ws_ y cc nL rt) B.pre
  have hts : ∀ w ∈ lw_all, w.before av.toArray s = true := fun w h => hts0 w (List.mem_cons_of_mem _ h)
  subst hsz
  have hl := lv_entry av (n := nL) hlen
  rw [lg_entry_eq]
  rw [hls] at hl
  refine body (p, l, e, rm, s, m, av.toArray, below, meth, c, va_A V s.heap.size, vx_MQ below (va_Qi post (gB K V s.heap.size) (va_A V s.heap.size)) (vx_X postX (gBX K V s.heap.size E0) (va_A V s.heap.size)) av.toArray s mc (4 * mc) (va_A V s.heap.size), nL) rfl ⟨B.exec, B.bytes, hml, findClass_of_methodNamed B.named, hts, hK, fun q h => Or.inr h, rfl, hE, rfl⟩ (name_of_methodNamed B.named B.method).1 ?_ ?_ s.heap [] _ hP hD0.self va_S.rf hl
  · intro i v V1 pc ls ty hi hty hn hdg hp H locs la hP hD hS hl
    refine W.widen (k := mc) (n := 4 * mc) hi (Nat.mul_le_mul_left 4 hi) (vx_ret ?_)
    exact W.zret (v := v) (ty := ty) B.exec B.bytes (B.returns.trans hty) hn (fun t ht hW => ⟨⟨v, V1, rfl, hp, by rw [ht]; exact hP, hD⟩, hS.F ht⟩) hS.2.2 hdg B.notSynchronized
  · intro i V1 pc ls st q hi hp H locs la ce hP hD hS hl hce hv hcl
    exact vx_out (E := E0) (ce := ce) (fun x hx => (htab x hx).elim) B.notSynchronized hce hv hcl (fun t ht hal => ⟨V1, hp, ⟨rfl, by rw [ht]; exact hP, hD⟩, hS.F ht⟩) hS.2.2 hi (Nat.mul_le_mul_left 4 hi)
theorem g_callXVi (C : gC Γ K own cc nL rm) {E0 : String} {y : MethodName} {cy : ByteArray} {nLy : Nat} {rt : Option FieldType} {rmy : Room} {As rest : List Value} {b : Nat} {post : Int32 → va_W → Prop} {postX : va_W → Prop} {m x0 : Nat} {Cn : String} (hM : gXiE E0 Γ.l K y cy nLy rt rmy (.ref b :: As) V post postX m) (hG : GoodIn lw_all (wsV own x0 Cn y (ws_ y cy nLy rt))) {T : u_T} {N ci qi : Nat} {fs : List Value} (hcl : gCl[ci]? = some (Cn, T, N)) (hq : V[qi]? = some (b, .inr (ci, fs))) (hrm : rmy.cells = m ∧ rmy.slots = 4 * m) (hR : rmy.frames + 1 ≤ rm.frames ∧ 8 + (nLy + 11) + rmy.locals ≤ rm.locals) (n : Nat) (hn : As.length = n) (hd : y.cls = Cn ∧ y.cls ≠ "java/lang/invoke/MethodHandle" ∧ y.cls ≠ "java/lang/invoke/VarHandle" ∧ (parseMethodDescriptor y.desc).map (fun d => d.parameters.length) = some n) (hst : st = As.reverse ++ .ref b :: rest) (hcat : (rest.map fun v => v.category).sum ≤ 8) {mc : Nat} (hm : rm.cells = mc ∧ rm.slots = 4 * mc) (hbud : i + m ≤ mc) (hdg : decode cc pc = .ok (.invokevirtual x0, 3)) (kx : ∀ (V1 : va_W) (q : Nat), postX V1 → gY Γ K E0 (i + m) (4 * (i + m)) V1 pc ls rest q) (k : ∀ (r : Int32) (V1 : va_W), post r V1 → gJ Γ K (i + m) (4 * (i + m)) V1 (pc + 3) ls (.int r :: rest)) : gJ Γ K i (4 * i) V pc ls st := by
  subst hst
  intro H locs la hP hD hS hl
  have hF : ∀ q, va_A V H.size q → Γ.A q := g_free C hD hS
  exact vx_calli (vx_runV (As := As) (rest := rest) C.f (hM H.size) (cwV n C.t hG rfl hrm.1 hrm.2 hd (by rw [C.r]; exact hR)) ⟨g_blind, va_recv C.k hP hcl hq, g_pre C hP hD hS _⟩ rfl hn (hl.1.trans C.n) rfl (lv_room hcat) hdg (by rw [C.r, hm.1, hm.2]; exact ⟨hbud, by omega⟩)) hS (fun q _ h => hF q h) hF (fun q _ h => hF q h) (fun E ce q9 u t H1 locs1 ht hvm hp hB hz hk hS1 hce hv hcl => by obtain ⟨rfl, hB⟩ := hB; have := kx u q9 hp H1 locs1 la ce (by rw [← ht]; exact hB.1) (hB.2.weaken (fun _ _ _ h => hF _ h)) hS1 hl hce hv hcl; rw [Nat.mul_add] at this; exact this) (fun r u t H1 locs1 ht hvm hw hB hz hk hS1 => by have := k r u hw H1 locs1 la (by rw [← ht]; exact hB.1) (hB.2.weaken (fun _ _ _ h => hF _ h)) hS1 hl; rw [Nat.mul_add] at this; exact this)
def gXqE (E0 : String) (l : Launch) (K : gK) (y : MethodName) (cc : ByteArray) (nL : Nat) (rt : Option FieldType) (rm : Room) (av : List Value) (V : va_W) (post : Option Nat → va_W → Prop) (postX : va_W → Prop) (mc : Nat) : Prop := ∀ sz : Nat, vx_Met l y (ws_ y cc nL rt) rm (gPc K av V sz) (va_Qq post (gB K V sz) (va_A V sz)) (vx_X postX (gBX K V sz E0) (va_A V sz)) mc (4 * mc) (va_A V sz)
abbrev gXq := gXqE "OneBears$Fault"
theorem g_inXQ {E0 : String} {l : Launch} {y : MethodName} {rt : Option FieldType} {av : List Value} {post : Option Nat → va_W → Prop} {postX : va_W → Prop} {mc : Nat} {ls0 : List (Nat × Value)} (hy : plainName y.cls = true) (hlen : (lg_sl av).length ≤ nL) (hls : lv_args 0 av = ls0) (hrc : rm.cells = mc) (hrs : rm.slots = 4 * mc)
    (body : ∀ Γ : gT, Γ.l = l → gC Γ K y.cls cc nL rm → (Γ.h.name = y.name) → gXqR Γ K cc rt post mc → gXTE Γ K E0 postX mc → gJ Γ K 0 0 V 0 ls0 []) : gXqE E0 l K y cc nL rt rm av V post postX mc := by
  intro sz
  refine vx_ofW (cc := cc) (maxL := nL) (ret := rt) hy rfl ?_
  intro p e s m args below meth c s₁ B hml htab hv
  obtain ⟨rfl, hsz, hP, hK, hD0, hE⟩ := hv
  have hts0 := atoms_spec (ws := ws_ y cc nL rt) B.pre
  have hts : ∀ w ∈ lw_all, w.before av.toArray s = true := fun w h => hts0 w (List.mem_cons_of_mem _ h)
  subst hsz
  have hl := lv_entry av (n := nL) hlen
  rw [lg_entry_eq]
  rw [hls] at hl
  refine body (p, l, e, rm, s, m, av.toArray, below, meth, c, va_A V s.heap.size, vx_MQ below (va_Qq post (gB K V s.heap.size) (va_A V s.heap.size)) (vx_X postX (gBX K V s.heap.size E0) (va_A V s.heap.size)) av.toArray s mc (4 * mc) (va_A V s.heap.size), nL) rfl ⟨B.exec, B.bytes, hml, findClass_of_methodNamed B.named, hts, hK, fun q h => Or.inr h, rfl, hE, rfl⟩ (name_of_methodNamed B.named B.method).1 ?_ ?_ s.heap [] _ hP hD0.self va_S.rf hl
  · intro i v V1 pc ls cn hi hty hdg hp H locs la hP hD hS hl
    refine W.widen (k := mc) (n := 4 * mc) hi (Nat.mul_le_mul_left 4 hi) (vx_ret ?_)
    exact W.aret (v := va_rf v) B.exec B.bytes (B.returns.trans hty) (Or.inl ⟨_, rfl⟩) (by cases v with
      | none => exact Or.inl rfl
      | some a => exact Or.inr ⟨a, rfl⟩) (fun t ht hW => ⟨⟨v, V1, rfl, hp, by rw [ht]; exact hP, hD⟩, hS.F ht⟩) hS.2.2 hdg B.notSynchronized
  · intro i V1 pc ls st q hi hp H locs la ce hP hD hS hl hce hv hcl
    exact vx_out (E := E0) (ce := ce) (fun x hx => (htab x hx).elim) B.notSynchronized hce hv hcl (fun t ht hal => ⟨V1, hp, ⟨rfl, by rw [ht]; exact hP, hD⟩, hS.F ht⟩) hS.2.2 hi (Nat.mul_le_mul_left 4 hi)
theorem g_callXVq (C : gC Γ K own cc nL rm) {E0 : String} {y : MethodName} {cy : ByteArray} {nLy : Nat} {rt : Option FieldType} {rmy : Room} {As rest : List Value} {b : Nat} {post : Option Nat → va_W → Prop} {postX : va_W → Prop} {m x0 : Nat} {Cn : String} (hM : gXqE E0 Γ.l K y cy nLy rt rmy (.ref b :: As) V post postX m) (hG : GoodIn lw_all (wsV own x0 Cn y (ws_ y cy nLy rt))) {T : u_T} {N ci qi : Nat} {fs : List Value} (hcl : gCl[ci]? = some (Cn, T, N)) (hq : V[qi]? = some (b, .inr (ci, fs))) (hrm : rmy.cells = m ∧ rmy.slots = 4 * m) (hR : rmy.frames + 1 ≤ rm.frames ∧ 8 + (nLy + 11) + rmy.locals ≤ rm.locals) (n : Nat) (hn : As.length = n) (hd : y.cls = Cn ∧ y.cls ≠ "java/lang/invoke/MethodHandle" ∧ y.cls ≠ "java/lang/invoke/VarHandle" ∧ (parseMethodDescriptor y.desc).map (fun d => d.parameters.length) = some n) (hst : st = As.reverse ++ .ref b :: rest) (hcat : (rest.map fun v => v.category).sum ≤ 8) {mc : Nat} (hm : rm.cells = mc ∧ rm.slots = 4 * mc) (hbud : i + m ≤ mc) (hdg : decode cc pc = .ok (.invokevirtual x0, 3)) (kx : ∀ (V1 : va_W) (q : Nat), postX V1 → gY Γ K E0 (i + m) (4 * (i + m)) V1 pc ls rest q) (k : ∀ (r : Option Nat) (V1 : va_W), post r V1 → gJ Γ K (i + m) (4 * (i + m)) V1 (pc + 3) ls (va_rf r :: rest)) : gJ Γ K i (4 * i) V pc ls st := by
  subst hst
  intro H locs la hP hD hS hl
  have hF : ∀ q, va_A V H.size q → Γ.A q := g_free C hD hS
  exact vx_callq (vx_runV (As := As) (rest := rest) C.f (hM H.size) (cwV n C.t hG rfl hrm.1 hrm.2 hd (by rw [C.r]; exact hR)) ⟨g_blind, va_recv C.k hP hcl hq, g_pre C hP hD hS _⟩ rfl hn (hl.1.trans C.n) rfl (lv_room hcat) hdg (by rw [C.r, hm.1, hm.2]; exact ⟨hbud, by omega⟩)) hS (fun q _ h => hF q h) hF (fun q _ h => hF q h) (fun E ce q9 u t H1 locs1 ht hvm hp hB hz hk hS1 hce hv hcl => by obtain ⟨rfl, hB⟩ := hB; have := kx u q9 hp H1 locs1 la ce (by rw [← ht]; exact hB.1) (hB.2.weaken (fun _ _ _ h => hF _ h)) hS1 hl hce hv hcl; rw [Nat.mul_add] at this; exact this) (fun r u t H1 locs1 ht hvm hw hB hz hk hS1 => by have := k r u hw H1 locs1 la (by rw [← ht]; exact hB.1) (hB.2.weaken (fun _ _ _ h => hF _ h)) hS1 hl; rw [Nat.mul_add] at this; exact this)
def gXvE (E0 : String) (l : Launch) (K : gK) (y : MethodName) (cc : ByteArray) (nL : Nat) (rt : Option FieldType) (rm : Room) (av : List Value) (V : va_W) (post : va_W → Prop) (postX : va_W → Prop) (mc : Nat) : Prop := ∀ sz : Nat, vx_Met l y (ws_ y cc nL rt) rm (gPc K av V sz) (va_Qv post (gB K V sz) (va_A V sz)) (vx_X postX (gBX K V sz E0) (va_A V sz)) mc (4 * mc) (va_A V sz)
abbrev gXv := gXvE "OneBears$Fault"
theorem g_inXV {E0 : String} {l : Launch} {y : MethodName} {rt : Option FieldType} {av : List Value} {post : va_W → Prop} {postX : va_W → Prop} {mc : Nat} {ls0 : List (Nat × Value)} (hy : plainName y.cls = true) (hlen : (lg_sl av).length ≤ nL) (hls : lv_args 0 av = ls0) (hrc : rm.cells = mc) (hrs : rm.slots = 4 * mc)
    (body : ∀ Γ : gT, Γ.l = l → gC Γ K y.cls cc nL rm → (Γ.h.name = y.name) → gXvR Γ K cc rt post mc → gXTE Γ K E0 postX mc → gJ Γ K 0 0 V 0 ls0 []) : gXvE E0 l K y cc nL rt rm av V post postX mc := by
  intro sz
  refine vx_ofW (cc := cc) (maxL := nL) (ret := rt) hy rfl ?_
  intro p e s m args below meth c s₁ B hml htab hv
  obtain ⟨rfl, hsz, hP, hK, hD0, hE⟩ := hv
  have hts0 := atoms_spec (ws := ws_ y cc nL rt) B.pre
  have hts : ∀ w ∈ lw_all, w.before av.toArray s = true := fun w h => hts0 w (List.mem_cons_of_mem _ h)
  subst hsz
  have hl := lv_entry av (n := nL) hlen
  rw [lg_entry_eq]
  rw [hls] at hl
  refine body (p, l, e, rm, s, m, av.toArray, below, meth, c, va_A V s.heap.size, vx_MQ below (va_Qv post (gB K V s.heap.size) (va_A V s.heap.size)) (vx_X postX (gBX K V s.heap.size E0) (va_A V s.heap.size)) av.toArray s mc (4 * mc) (va_A V s.heap.size), nL) rfl ⟨B.exec, B.bytes, hml, findClass_of_methodNamed B.named, hts, hK, fun q h => Or.inr h, rfl, hE, rfl⟩ (name_of_methodNamed B.named B.method).1 ?_ ?_ s.heap [] _ hP hD0.self va_S.rf hl
  · intro i hi hty V1 pc ls hdg hp H locs la hP hD hS hl
    refine W.widen (k := mc) (n := 4 * mc) hi (Nat.mul_le_mul_left 4 hi) (vx_ret ?_)
    exact W.vret B.exec B.bytes (B.returns.trans hty) (fun t ht hW => ⟨⟨V1, rfl, hp, by rw [ht]; exact hP, hD⟩, hS.F ht⟩) hS.2.2 hdg B.notSynchronized
  · intro i V1 pc ls st q hi hp H locs la ce hP hD hS hl hce hv hcl
    exact vx_out (E := E0) (ce := ce) (fun x hx => (htab x hx).elim) B.notSynchronized hce hv hcl (fun t ht hal => ⟨V1, hp, ⟨rfl, by rw [ht]; exact hP, hD⟩, hS.F ht⟩) hS.2.2 hi (Nat.mul_le_mul_left 4 hi)
theorem g_callXVv (C : gC Γ K own cc nL rm) {E0 : String} {y : MethodName} {cy : ByteArray} {nLy : Nat} {rt : Option FieldType} {rmy : Room} {As rest : List Value} {b : Nat} {post : va_W → Prop} {postX : va_W → Prop} {m x0 : Nat} {Cn : String} (hM : gXvE E0 Γ.l K y cy nLy rt rmy (.ref b :: As) V post postX m) (hG : GoodIn lw_all (wsV own x0 Cn y (ws_ y cy nLy rt))) {T : u_T} {N ci qi : Nat} {fs : List Value} (hcl : gCl[ci]? = some (Cn, T, N)) (hq : V[qi]? = some (b, .inr (ci, fs))) (hrm : rmy.cells = m ∧ rmy.slots = 4 * m) (hR : rmy.frames + 1 ≤ rm.frames ∧ 8 + (nLy + 11) + rmy.locals ≤ rm.locals) (n : Nat) (hn : As.length = n) (hd : y.cls = Cn ∧ y.cls ≠ "java/lang/invoke/MethodHandle" ∧ y.cls ≠ "java/lang/invoke/VarHandle" ∧ (parseMethodDescriptor y.desc).map (fun d => d.parameters.length) = some n) (hst : st = As.reverse ++ .ref b :: rest) (hcat : (rest.map fun v => v.category).sum ≤ 8) {mc : Nat} (hm : rm.cells = mc ∧ rm.slots = 4 * mc) (hbud : i + m ≤ mc) (hdg : decode cc pc = .ok (.invokevirtual x0, 3)) (kx : ∀ (V1 : va_W) (q : Nat), postX V1 → gY Γ K E0 (i + m) (4 * (i + m)) V1 pc ls rest q) (k : ∀ (V1 : va_W), post V1 → gJ Γ K (i + m) (4 * (i + m)) V1 (pc + 3) ls rest) : gJ Γ K i (4 * i) V pc ls st := by
  subst hst
  intro H locs la hP hD hS hl
  have hF : ∀ q, va_A V H.size q → Γ.A q := g_free C hD hS
  exact vx_callv (vx_runV (As := As) (rest := rest) C.f (hM H.size) (cwV n C.t hG rfl hrm.1 hrm.2 hd (by rw [C.r]; exact hR)) ⟨g_blind, va_recv C.k hP hcl hq, g_pre C hP hD hS _⟩ rfl hn (hl.1.trans C.n) rfl (lv_room hcat) hdg (by rw [C.r, hm.1, hm.2]; exact ⟨hbud, by omega⟩)) hS (fun q _ h => hF q h) hF (fun q _ h => hF q h) (fun E ce q9 u t H1 locs1 ht hvm hp hB hz hk hS1 hce hv hcl => by obtain ⟨rfl, hB⟩ := hB; have := kx u q9 hp H1 locs1 la ce (by rw [← ht]; exact hB.1) (hB.2.weaken (fun _ _ _ h => hF _ h)) hS1 hl hce hv hcl; rw [Nat.mul_add] at this; exact this) (fun u t H1 locs1 ht hvm hw hB hz hk hS1 => by have := k u hw H1 locs1 la (by rw [← ht]; exact hB.1) (hB.2.weaken (fun _ _ _ h => hF _ h)) hS1 hl; rw [Nat.mul_add] at this; exact this)
theorem g_callI (C : gC Γ K own cc nL rm) {y : MethodName} {cy : ByteArray} {nLy : Nat} {rmy : Room} {As rest : List Value} {b : Nat} {post : va_W → Prop} {mc ms x0 : Nat} (hM : gMv Γ.l K y cy nLy none rmy (.ref b :: As) V post mc ms) (hlk : Cond.methodLink own x0 y ∈ lw_all) (hG : GoodIn lw_all (ws_ y cy nLy none)) (hini : Cond.initialized y.cls ∈ lw_all) (hin : Cond.instanceMethod y ∈ lw_all) (hy1 : y.name = "<init>") (hrm : rmy.cells = mc ∧ rmy.slots = ms) (hR : rmy.frames + 1 ≤ rm.frames ∧ 8 + (nLy + 11) + rmy.locals ≤ rm.locals) (n : Nat) (hn : As.length = n) (hd : y.cls ≠ "java/lang/invoke/MethodHandle" ∧ y.cls ≠ "java/lang/invoke/VarHandle" ∧ (parseMethodDescriptor y.desc).map (fun d => d.parameters.length) = some n) (hst : st = As.reverse ++ .ref b :: rest) (hcat : (rest.map fun v => v.category).sum ≤ 8) (hbud : i + mc ≤ rm.cells ∧ j + ms ≤ rm.slots) (hdg : decode cc pc = .ok (.invokespecial x0, 3)) (k : ∀ (V1 : va_W), post V1 → gJ Γ K (i + mc) (j + ms) V1 (pc + 3) ls rest) : gJ Γ K i j V pc ls st := by
  subst hst
  intro H locs la hP hD hS hl
  have hF : ∀ q, va_A V H.size q → Γ.A q := g_free C hD hS
  exact va_callv (va_runI (As := As) (rest := rest) C.f (hM H.size) (cwI n C.t hG rfl hrm.1 hrm.2 (C.t _ hini) (C.t _ hlk) (C.t _ hin) hy1 hd (by rw [C.r]; exact hR)) ⟨g_blind, g_pre C hP hD hS _⟩ rfl hn (hl.1.trans C.n) rfl (lv_room hcat) hdg (by rw [C.r]; exact hbud)) hS (fun q _ h => hF q h) hF (fun u t H1 locs1 ht hvm hw hB hz hk hS1 => k u hw H1 locs1 la (by rw [← ht]; exact hB.1) (hB.2.weaken (fun _ _ _ h => hF _ h)) hS1 hl)
theorem g_callIN (C : gC Γ K own cc nL rm) {y : MethodName} {cy : ByteArray} {nLy : Nat} {rmy : Room} {As rest : List Value} {b : Nat} {post : va_W → Prop} {mc ms x0 : Nat} (hM : gMv Γ.l K y cy nLy none rmy (.ref b :: As) V post mc ms) {host : String} (hlk : (own, x0, y, host) ∈ gNM) (hG : GoodIn lw_all (ws_ y cy nLy none)) (hini : Cond.initialized y.cls ∈ lw_all) (hin : Cond.instanceMethod y ∈ lw_all) (hy1 : y.name = "<init>") (hrm : rmy.cells = mc ∧ rmy.slots = ms) (hR : rmy.frames + 1 ≤ rm.frames ∧ 8 + (nLy + 11) + rmy.locals ≤ rm.locals) (n : Nat) (hn : As.length = n) (hd : y.cls ≠ "java/lang/invoke/MethodHandle" ∧ y.cls ≠ "java/lang/invoke/VarHandle" ∧ (parseMethodDescriptor y.desc).map (fun d => d.parameters.length) = some n) (hst : st = As.reverse ++ .ref b :: rest) (hcat : (rest.map fun v => v.category).sum ≤ 8) (hbud : i + mc ≤ rm.cells ∧ j + ms ≤ rm.slots) (hdg : decode cc pc = .ok (.invokespecial x0, 3)) (k : ∀ (V1 : va_W), post V1 → gJ Γ K (i + mc) (j + ms) V1 (pc + 3) ls rest) : gJ Γ K i j V pc ls st := by
  subst hst
  intro H locs la hP hD hS hl
  have hF : ∀ q, va_A V H.size q → Γ.A q := g_free C hD hS
  exact va_callv (va_runIN (As := As) (rest := rest) C.f (hM H.size) ⟨va_cnB n C.t hG rfl hrm.1 hrm.2 (C.e.2.1 _ hlk) (C.t _ hini) hd (by rw [C.r]; exact hR), hy1, C.t _ hin⟩ ⟨g_blind, g_pre C hP hD hS _⟩ rfl hn (hl.1.trans C.n) rfl (lv_room hcat) hdg (by rw [C.r]; exact hbud)) hS (fun q _ h => hF q h) hF (fun u t H1 locs1 ht hvm hw hB hz hk hS1 => k u hw H1 locs1 la (by rw [← ht]; exact hB.1) (hB.2.weaken (fun _ _ _ h => hF _ h)) hS1 hl)
end
