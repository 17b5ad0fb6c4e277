set_option maxRecDepth 100000
/-! THE START: what the machine has at the law's entry, as the contracts ask it -/
set_option maxRecDepth 100000
theorem st_arr {s : State} {args : Array Value} {ty : FieldType} (hty : ∀ C, ty ≠ .object C) (h : (Cond.arrayClass ty).before args s = true) : ∃ cA, ArrOfT s cA ty ∧ va_RA s cA ty := by
  obtain ⟨c, k, comp, h1, h2, h3⟩ := Cond.arrayClass_spec (show (Cond.arrayClass ty).holds args s none s [] = true from h)
  refine ⟨c, fun n z => ⟨(fun k h => by cases h), k, h2, comp, h3⟩, ?_⟩
  cases ty with
  | object C => exact absurd rfl (hty C)
  | _ => exact h1
theorem st_arrq {s : State} {args : Array Value} {C : String} (h : (Cond.arrayOver (.object C)).before args s = true) : ∃ cA, ArrOfT s cA (.object C) ∧ va_RA s cA (.object C) := by
  obtain ⟨comp, c, k, h1, h2, h3, h4, h5⟩ := Cond.arrayOver_spec (show (Cond.arrayOver (.object C)).holds args s none s [] = true from h)
  exact ⟨c, fun n z => ⟨(fun k h => by cases h), k, h3, comp, h4⟩, k, comp, h3, h4, h1, h5⟩
theorem st_flags {l : Launch} (h : l.flags = flags0) : l.stackTraces = false := by
  unfold Launch.stackTraces
  rw [h]
  decide +kernel
theorem st_classes {s : State} {b : Nat} (hts : ∀ w ∈ lw_tbl, w.before #[Value.ref b] s = true) : ∃ D : va_G, ∀ (c : Nat) (q : vw_C), gCl[c]? = some q → u_Kn s q.1 q.2.1 q.2.2 (D.1 c) (D.2 c) := by
  obtain ⟨c0, i0, h0⟩ := u_known (C := RX1) (T := TX1) (N := 24) (n := 24) hts (fun w h => lw_all_tbl (in_X1 w h)) (hts _ (lw_all_tbl q104))
  obtain ⟨c1, i1, h1⟩ := u_known (C := RX4) (T := TX4) (N := 21) (n := 21) hts (fun w h => lw_all_tbl (in_X4 w h)) (hts _ (lw_all_tbl q190))
  obtain ⟨c2, i2, h2⟩ := u_known (C := RX3) (T := TX3) (N := 3) (n := 3) hts (fun w h => lw_all_tbl (in_X3 w h)) (hts _ (lw_all_tbl q171))
  obtain ⟨c3, i3, h3⟩ := u_known (C := RX2) (T := TX2) (N := 0) (n := 6) hts (fun w h => by cases h) (hts _ (lw_all_tbl q112))
  obtain ⟨c4, i4, h4⟩ := u_known (C := RX8) (T := TX8) (N := 1) (n := 1) hts (fun w h => lw_all_tbl (in_X8 w h)) (hts _ (lw_all_tbl q506))
  obtain ⟨c5, i5, h5⟩ := u_known (C := RX7) (T := TX7) (N := 1) (n := 1) hts (fun w h => lw_all_tbl (in_X7 w h)) (hts _ (lw_all_tbl q490))
  obtain ⟨c6, i6, h6⟩ := u_known (C := RX9) (T := TX9) (N := 3) (n := 3) hts (fun w h => lw_all_tbl (in_X9 w h)) (hts _ (lw_all_tbl q516))
  obtain ⟨c7, i7, h7⟩ := u_known (C := RX10) (T := TX10) (N := 3) (n := 3) hts (fun w h => lw_all_tbl (in_X10 w h)) (hts _ (lw_all_tbl q536))
  obtain ⟨c8, i8, h8⟩ := u_known (C := RX14) (T := TX14) (N := 4) (n := 4) hts (fun w h => lw_all_tbl (in_X14 w h)) (hts _ (lw_all_tbl q608))
  obtain ⟨c9, i9, h9⟩ := u_known (C := RX13) (T := TX13) (N := 2) (n := 2) hts (fun w h => lw_all_tbl (in_X13 w h)) (hts _ (lw_all_tbl q588))
  obtain ⟨c10, i10, h10⟩ := u_known (C := RX15) (T := TX15) (N := 4) (n := 4) hts (fun w h => lw_all_tbl (in_X15 w h)) (hts _ (lw_all_tbl q625))
  obtain ⟨c11, i11, h11⟩ := u_known (C := RX11) (T := TX11) (N := 4) (n := 4) hts (fun w h => lw_all_tbl (in_X11 w h)) (hts _ (lw_all_tbl q554))
  obtain ⟨c12, i12, h12⟩ := u_known (C := RX5) (T := TX5) (N := 57) (n := 57) hts (fun w h => lw_all_tbl (in_X5 w h)) (hts _ (lw_all_tbl q989))
  obtain ⟨c13, i13, h13⟩ := u_known (C := RJ9) (T := TJ9) (N := 0) (n := 6) hts (fun w h => by cases h) (hts _ (lw_all_tbl q967))
  refine ⟨(fun k => (if k = 0 then c0 else (if k = 1 then c1 else (if k = 2 then c2 else (if k = 3 then c3 else (if k = 4 then c4 else (if k = 5 then c5 else (if k = 6 then c6 else (if k = 7 then c7 else (if k = 8 then c8 else (if k = 9 then c9 else (if k = 10 then c10 else (if k = 11 then c11 else (if k = 12 then c12 else c13))))))))))))), fun k => (if k = 0 then i0 else (if k = 1 then i1 else (if k = 2 then i2 else (if k = 3 then i3 else (if k = 4 then i4 else (if k = 5 then i5 else (if k = 6 then i6 else (if k = 7 then i7 else (if k = 8 then i8 else (if k = 9 then i9 else (if k = 10 then i10 else (if k = 11 then i11 else (if k = 12 then i12 else i13)))))))))))))), ?_⟩
  intro k q hq
  match k, hq with
  | 0, hq => cases hq; exact h0
  | 1, hq => cases hq; exact h1
  | 2, hq => cases hq; exact h2
  | 3, hq => cases hq; exact h3
  | 4, hq => cases hq; exact h4
  | 5, hq => cases hq; exact h5
  | 6, hq => cases hq; exact h6
  | 7, hq => cases hq; exact h7
  | 8, hq => cases hq; exact h8
  | 9, hq => cases hq; exact h9
  | 10, hq => cases hq; exact h10
  | 11, hq => cases hq; exact h11
  | 12, hq => cases hq; exact h12
  | 13, hq => cases hq; exact h13
  | k + 14, hq => simp [gCl] at hq
theorem st_nf {s : State} {b : Nat} (hts : ∀ w ∈ lw_tbl, w.before #[Value.ref b] s = true) : ∀ q ∈ gNF, va_Nw (.fieldLinkNest q.1 q.2.1 q.2.2.1 q.2.2.2.1 q.2.2.2.2.1 q.2.2.2.2.2) s := by
  unfold gNF
  exact (List.forall_mem_cons.mpr ⟨va_Nw.of rfl (hts _ q565), 
    (List.forall_mem_cons.mpr ⟨va_Nw.of rfl (hts _ q560), 
    (List.forall_mem_cons.mpr ⟨va_Nw.of rfl (hts _ q562), 
    (List.forall_mem_cons.mpr ⟨va_Nw.of rfl (hts _ q564), 
    (List.forall_mem_cons.mpr ⟨va_Nw.of rfl (hts _ q202), 
    (List.forall_mem_cons.mpr ⟨va_Nw.of rfl (hts _ q215), 
    (List.forall_mem_cons.mpr ⟨va_Nw.of rfl (hts _ q217), 
    (List.forall_mem_cons.mpr ⟨va_Nw.of rfl (hts _ q219), 
    (List.forall_mem_cons.mpr ⟨va_Nw.of rfl (hts _ q221), 
    (List.forall_mem_cons.mpr ⟨va_Nw.of rfl (hts _ q204), 
    (List.forall_mem_cons.mpr ⟨va_Nw.of rfl (hts _ q209), 
    (List.forall_mem_cons.mpr ⟨va_Nw.of rfl (hts _ q212), 
    (List.forall_mem_cons.mpr ⟨va_Nw.of rfl (hts _ q206), 
    (List.forall_mem_cons.mpr ⟨va_Nw.of rfl (hts _ q543), 
    (List.forall_mem_cons.mpr ⟨va_Nw.of rfl (hts _ q288), 
    (List.forall_mem_cons.mpr ⟨va_Nw.of rfl (hts _ q285), 
    (List.forall_mem_cons.mpr ⟨va_Nw.of rfl (hts _ q287), 
    (List.forall_mem_cons.mpr ⟨va_Nw.of rfl (hts _ q280), 
    (List.forall_mem_cons.mpr ⟨va_Nw.of rfl (hts _ q282), 
    (List.forall_mem_cons.mpr ⟨va_Nw.of rfl (hts _ q291), 
    (List.forall_mem_cons.mpr ⟨va_Nw.of rfl (hts _ q276), 
    (List.forall_mem_cons.mpr ⟨va_Nw.of rfl (hts _ q597), (fun _ h => absurd h List.not_mem_nil)⟩)⟩)⟩)⟩)⟩)⟩)⟩)⟩)⟩)⟩)⟩)⟩)⟩)⟩)⟩)⟩)⟩)⟩)⟩)⟩)⟩)⟩)
theorem st_nm {s : State} {b : Nat} (hts : ∀ w ∈ lw_tbl, w.before #[Value.ref b] s = true) : ∀ q ∈ gNM, va_Nw (.methodLinkNest q.1 q.2.1 q.2.2.1 q.2.2.2) s := by
  unfold gNM
  exact (List.forall_mem_cons.mpr ⟨va_Nw.of rfl (hts _ q149), 
    (List.forall_mem_cons.mpr ⟨va_Nw.of rfl (hts _ q172), 
    (List.forall_mem_cons.mpr ⟨va_Nw.of rfl (hts _ q191), 
    (List.forall_mem_cons.mpr ⟨va_Nw.of rfl (hts _ q520), 
    (List.forall_mem_cons.mpr ⟨va_Nw.of rfl (hts _ q196), 
    (List.forall_mem_cons.mpr ⟨va_Nw.of rfl (hts _ q770), 
    (List.forall_mem_cons.mpr ⟨va_Nw.of rfl (hts _ q808), 
    (List.forall_mem_cons.mpr ⟨va_Nw.of rfl (hts _ q612), 
    (List.forall_mem_cons.mpr ⟨va_Nw.of rfl (hts _ q510), 
    (List.forall_mem_cons.mpr ⟨va_Nw.of rfl (hts _ q494), 
    (List.forall_mem_cons.mpr ⟨va_Nw.of rfl (hts _ q592), 
    (List.forall_mem_cons.mpr ⟨va_Nw.of rfl (hts _ q629), (fun _ h => absurd h List.not_mem_nil)⟩)⟩)⟩)⟩)⟩)⟩)⟩)⟩)⟩)⟩)⟩)⟩)
theorem st_nd {s : State} {b : Nat} (hts : ∀ w ∈ lw_tbl, w.before #[Value.ref b] s = true) : ∀ q ∈ gND, va_Nw (.declares q) s := by
  unfold gND
  exact (List.forall_mem_cons.mpr ⟨va_Nw.of rfl (hts _ q818), 
    (List.forall_mem_cons.mpr ⟨va_Nw.of rfl (hts _ q812), 
    (List.forall_mem_cons.mpr ⟨va_Nw.of rfl (hts _ q114), 
    (List.forall_mem_cons.mpr ⟨va_Nw.of rfl (hts _ q115), 
    (List.forall_mem_cons.mpr ⟨va_Nw.of rfl (hts _ q969), 
    (List.forall_mem_cons.mpr ⟨va_Nw.of rfl (hts _ q970), 
    (List.forall_mem_cons.mpr ⟨va_Nw.of rfl (hts _ q116), 
    (List.forall_mem_cons.mpr ⟨va_Nw.of rfl (hts _ q117), (fun _ h => absurd h List.not_mem_nil)⟩)⟩)⟩)⟩)⟩)⟩)⟩)⟩)
theorem st_env {s : State} {b : Nat} (hts : ∀ w ∈ lw_tbl, w.before #[Value.ref b] s = true) (hgv : (Jvm.Cond.and given_1 narrow_1).before #[Value.ref b] s = true) : ∃ K : gK, va_K K.1 gCl (gTy K) s ∧ gE K (fun q => s.heap.size ≤ q) s s.heap := by
  have hA : ∀ a : Nat, a < s.heap.size → ¬ (fun q : Nat => s.heap.size ≤ q) a := fun a h z => absurd h (Nat.not_lt.mpr z)
  obtain ⟨D, hD⟩ := st_classes hts
  obtain ⟨a0, h0, g0⟩ := st_arr (ty := .int) (fun _ h => by cases h) (hts _ (lw_all_tbl q187))
  obtain ⟨a1, h1, g1⟩ := st_arr (ty := .long) (fun _ h => by cases h) (hts _ (lw_all_tbl q188))
  obtain ⟨a2, h2, g2⟩ := st_arr (ty := .byte) (fun _ h => by cases h) (hts _ (lw_all_tbl q186))
  obtain ⟨a3, h3, g3⟩ := st_arrq (C := "OneBears$Clause") (hts _ q169)
  have hs := flat_of_before _ hgv
  obtain ⟨adK, adV, hS, hEv⟩ := vk_Sof (args := #[Value.ref b]) (s := s) (N := 2) (tm := fun i => if i = 0 then .string "OneBears" 180 else .string "OneBears" 112) (len := [4, 8]) (byt := [[100, 101, 115, 99], [97, 119, 110, 114, 113, 112, 107, 102]]) (A := fun q => s.heap.size ≤ q)
    (fun i hi => by rcases (show i = 0 ∨ i = 1 by omega) with rfl | rfl <;> decide)
    (fun i hi => by rcases (show i = 0 ∨ i = 1 by omega) with rfl | rfl <;> exact hs _ (by decide +kernel))
    (fun i hi => by rcases (show i = 0 ∨ i = 1 by omega) with rfl | rfl <;> exact hs _ (by decide +kernel))
    (fun i hi => by rcases (show i = 0 ∨ i = 1 by omega) with rfl | rfl <;> exact hs _ (by decide +kernel))
    (fun i hi => by rcases (show i = 0 ∨ i = 1 by omega) with rfl | rfl <;> exact hs _ (by decide +kernel))
    (fun i hi j hj => by
      rcases (show i = 0 ∨ i = 1 by omega) with rfl | rfl
      · have hj4 : j < 4 := hj
        rcases (show j = 0 ∨ j = 1 ∨ j = 2 ∨ j = 3 by omega) with rfl | rfl | rfl | rfl <;> exact hs _ (by decide +kernel)
      · have hj8 : j < 8 := hj
        rcases (show j = 0 ∨ j = 1 ∨ j = 2 ∨ j = 3 ∨ j = 4 ∨ j = 5 ∨ j = 6 ∨ j = 7 by omega) with rfl | rfl | rfl | rfl | rfl | rfl | rfl | rfl <;> exact hs _ (by decide +kernel))
    (fun i j hi hj hij => by
      rcases (show (i = 0 ∧ j = 1) ∨ (i = 1 ∧ j = 0) by omega) with ⟨rfl, rfl⟩ | ⟨rfl, rfl⟩
      · exact Or.inl (hs _ (by decide +kernel))
      · exact Or.inr (hs _ (by decide +kernel))) hA
  have e0 : (Term.string "OneBears" 180).eval #[Value.ref b] s none [] s = some (.ref (adK 0)) := hEv 0 (by decide)
  have e1 : (Term.string "OneBears" 112).eval #[Value.ref b] s none [] s = some (.ref (adK 1)) := hEv 1 (by decide)
  have e2 : (Term.string "OneBearsModel" 26).eval #[Value.ref b] s none [] s = some (.ref (adK 0)) := va_eqR (hs (.eq (.string "OneBears" 180) (.string "OneBearsModel" 26)) (by decide +kernel)) e0
  have e3 : (Term.string "OneBearsModel" 32).eval #[Value.ref b] s none [] s = some (.ref (adK 1)) := va_eqR (hs (.eq (.string "OneBears" 112) (.string "OneBearsModel" 32)) (by decide +kernel)) e1
  refine ⟨(D, (fun k => if k = 0 then a0 else if k = 1 then a1 else if k = 2 then a2 else a3), fun _ => 0, fun _ => 0, adK, adV, []), ⟨hD, ?_⟩, st_nf hts, st_nm hts, st_nd hts, va_AO.of (hts _ q169), ⟨vk_R.of (hts _ q377) e0, vk_R.of (hts _ q488) e1, vk_R.of (hts _ q994) e2, vk_R.of (hts _ q995) e3⟩, hS, va_Zof (hts _ q391) (hts _ (lw_all_tbl q85)) (va_eqt (hs _ (by decide +kernel))) hA, va_Zqof (hts _ q434) (hts _ (lw_all_tbl q89)) (hs _ (by decide +kernel)) hA, vx_Zqof (hts _ q136) (hts _ (lw_all_tbl q79)) (hs _ (by decide +kernel)) hA, vx_Zqof (hts _ q138) (hts _ (lw_all_tbl q79)) (hs _ (by decide +kernel)) hA, va_Nw.of rfl (hts _ q113), va_Nw.of rfl (hts _ q968)⟩
  intro k q hk
  match k, hk with
  | 0, hk => cases hk; exact ⟨h0, g0⟩
  | 1, hk => cases hk; exact ⟨h1, g1⟩
  | 2, hk => cases hk; exact ⟨h2, g2⟩
  | 3, hk => cases hk; exact ⟨h3, g3⟩
  | k + 4, hk => simp [gTy] at hk
