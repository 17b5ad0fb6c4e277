set_option maxRecDepth 100000
/-! HANDLERS -/
set_option maxRecDepth 100000
def gHi (l : Launch) (K : gK) (y : MethodName) (cc : ByteArray) (nL : Nat) (rt : Option FieldType) (hh : List (Nat × Nat × Nat × Nat)) (rm : Room) (av : List Value) (V : va_W) (post : Int32 → va_W → Prop) (mc : Nat) : Prop := ∀ sz : Nat, Met l y (wsW_ y cc nL rt hh) rm (gPc K av V sz) (va_Qi post (gB K V sz) (va_A V sz)) mc (4 * mc) (va_A V sz)
section
variable {Γ : gT} {K : gK} {own : String} {cc : ByteArray} {nL : Nat} {rm : Room} {i j pc : Nat} {w : Wd} {L V : va_W} {ls : List (Nat × Value)} {st : List Value}
theorem g_inHI {l : Launch} {y : MethodName} {rt : Option FieldType} {hh : List (Nat × Nat × Nat × Nat)} {av : List Value} {post : Int32 → va_W → Prop} {mc : Nat} {ls0 : List (Nat × Value)} (hy : plainName y.cls = true) (hlen : (lg_sl av).length ≤ nL) (hls : lv_args 0 av = ls0) (hrc : rm.cells = mc) (hrs : rm.slots = 4 * mc)
    (body : ∀ Γ : gT, Γ.l = l → gC Γ K y.cls cc nL rm → (Γ.h.name = y.name) → gXiR Γ K cc rt post mc → Γ.c.exceptionTable.toList = tableOf hh → gJ Γ K 0 0 V 0 ls0 []) : gHi l K y cc nL rt hh rm av V post mc := by
  intro sz
  have h : vx_Met l y (wsW_ y cc nL rt hh) rm (gPc K av V sz) (va_Qi post (gB K V sz) (va_A V sz)) (fun _ _ _ => False) mc (4 * mc) (va_A V sz) := by
    refine vx_ofWH (cc := cc) (maxL := nL) (ret := rt) (hh := hh) hy rfl ?_
    intro p e s m args below meth c s₁ B hml hv
    obtain ⟨rfl, hsz, hP, hK, hD0, hE⟩ := hv
    have hts0 := atoms_spec (ws := wsW_ y cc nL rt hh) B.pre
    have hts : ∀ w ∈ lw_all, w.before av.toArray s = true := fun w h => hts0 w (List.mem_cons_of_mem _ h)
    have htab := vx_table (x := y) B (hts0 _ List.mem_cons_self)
    subst hsz
    have hl := lv_entry av (n := nL) hlen
    rw [lg_entry_eq]
    rw [hls] at hl
    refine body (p, l, e, rm, s, m, av.toArray, below, meth, c, va_A V s.heap.size, vx_MQ below (va_Qi post (gB K V s.heap.size) (va_A V s.heap.size)) (fun _ _ _ => False) av.toArray s mc (4 * mc) (va_A V s.heap.size), nL) rfl ⟨B.exec, B.bytes, hml, findClass_of_methodNamed B.named, hts, hK, fun q h => Or.inr h, rfl, hE, rfl⟩ (name_of_methodNamed B.named B.method).1 ?_ htab s.heap [] _ hP hD0.self va_S.rf hl
    intro i v V1 pc ls ty hi hty hn hdg hp H locs la hP hD hS hl
    refine W.widen (k := mc) (n := 4 * mc) hi (Nat.mul_le_mul_left 4 hi) (vx_ret ?_)
    exact W.zret (v := v) (ty := ty) B.exec B.bytes (B.returns.trans hty) hn (fun t ht hW => ⟨⟨v, V1, rfl, hp, by rw [ht]; exact hP, hD⟩, hS.F ht⟩) hS.2.2 hdg B.notSynchronized
  exact MetFree.mono h (fun _ _ h => h) (fun _ _ _ _ _ h => h) (fun a s o t _ hq => by
    rcases hq with hq | ⟨q, -, E, ce, L, hx, -⟩
    · exact hq
    · exact hx.elim)
theorem g_catch1 (C : gC Γ K own cc nL rm) {E : String} {s0 e0 h0 t0 : Nat} (htab : Γ.c.exceptionTable.toList = tableOf [(s0, e0, h0, t0)]) (hcov : covers ⟨s0, e0, h0, t0⟩ pc = true) (ht0 : t0 ≠ 0) (hlk : Cond.classLink own t0 E ∈ lw_all) (hcast : va_Nw (.castable E E) Γ.s) (k : ∀ q : Nat, gJ Γ K i j V h0 ls [.ref q]) : ∀ q : Nat, gY Γ K E i j V pc ls st q := by
  intro q H locs la ce hP hD hS hl hce hv hcl
  exact vx_catch (name := E) C.o [] ⟨s0, e0, h0, t0⟩ [] htab (fun z hz => by cases hz) hcov ht0 (C.t _ hlk) (va_Nw.use rfl hcast) hce hv hcl (k q H locs la hP hD hS hl)
theorem g_decl (C : gC Γ K own cc nL rm) : ∀ w ∈ gND.map Cond.declares, w.before Γ.a Γ.s = true := by
  intro w hw
  obtain ⟨x, hx, rfl⟩ := List.mem_map.mp hw
  exact va_Nw.use rfl (C.e.2.2.1 x hx)
theorem g_throwN (C : gC Γ K RX1 cc nL rm) (hl0 : Γ.l.stackTraces = false) (hR : 5 < rm.frames ∧ (st.map fun v => v.category).sum + 81 ≤ rm.locals) {mc : Nat} (hm : rm.cells = mc ∧ rm.slots = 4 * mc) (hb : i + 2 ≤ mc) (d0 : decode cc pc = .ok (.new 267, 3)) (d3 : decode cc (pc + 3) = .ok (.dup, 1)) (d4 : decode cc (pc + 4) = .ok (.invokespecial 269, 3)) (d7 : decode cc (pc + 7) = .ok (.athrow, 1))
    (k : ∀ q : Nat, gY Γ K "java/util/NoSuchElementException" (i + 2) (4 * (i + 2)) (V ++ [(q, .inr (13, []))]) (pc + 7) ls st q) : gJ Γ K i (4 * i) V pc ls st := by
  intro H locs la hP hD hS hl
  refine vx_make0 (own := "OneBears") (cls := "java/util/NoSuchElementException") (names := ["java/lang/RuntimeException", "java/lang/Exception"]) (ik := 267) (ic := 269) C.x C.b hl0 C.o (by decide +kernel) (by decide +kernel) (C.t _ q966) (C.t _ q102) ?_ (by decide +kernel) C.e.2.2.2.2.2.2.2.2.1 C.e.2.2.2.2.2.2.2.2.2.1 hS (by rw [hl.1, C.n, C.l]) d0 d3 d4 C.k hP hD C.a (ci := 13) (T0 := TJ9) rfl (by rw [C.r]; exact hR.1) (by rw [C.r]; exact hR.2) (by rw [C.r, hm.1]; omega) (by rw [C.r, hm.2]; omega) (fun q H1 hP1 hD1 hS1 => ?_)
  · refine vx_hat (B := .castable "java/util/NoSuchElementException" "java/util/NoSuchElementException" :: gND.map Cond.declares) (fun w hw => C.t _ ?_) (by decide +kernel) (vx_c (va_Nw.use rfl C.e.2.2.2.2.2.2.2.2.2.2.2) (g_decl C))
    exact (show ∀ w ∈ (vx_at0 "OneBears" 269 "java/util/NoSuchElementException" ["java/lang/RuntimeException", "java/lang/Exception"]).filter goodWord, w ∈ lw_all from by
      have h : ((vx_at0 "OneBears" 269 "java/util/NoSuchElementException" ["java/lang/RuntimeException", "java/lang/Exception"]).filter goodWord).all (fun w => decide (w ∈ lw_all)) = true := by decide +kernel
      exact fun w hw => of_decide_eq_true (List.all_eq_true.mp h w hw)) w hw
  · refine W.widen (k := i + 2) (n := 4 * (i + 2)) (by omega) (by omega) ?_
    exact g_athrow (V := V ++ [(q, .inr (13, []))]) (E := "java/util/NoSuchElementException") (ci := 13) (qi := V.length) (fs := []) C rfl (by rw [List.getElem?_append_right (Nat.le_refl _), Nat.sub_self]; rfl) d7 rfl (k q) H1 locs la hP1 hD1 hS1 hl
end
