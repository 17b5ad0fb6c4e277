set_option maxRecDepth 100000
/-! THE LAW: rows -/
set_option maxRecDepth 100000
section
variable {Γ : gT} {K : gK} {own : String} {cc : ByteArray} {nL : Nat} {rm : Room} {i j pc : Nat} {w v : Wd} {L V : va_W} {ls : List (Nat × Value)} {st : List Value}
theorem g_swap (k : gJ Γ K i j (mL K v ++ (xL K w ++ L)) pc ls st) : gJ Γ K i j (xL K w ++ (mL K v ++ L)) pc ls st := g_perm (by rw [← List.append_assoc, ← List.append_assoc]; exact List.Perm.append_right _ List.perm_append_comm) k
theorem g_swap' (k : gJ Γ K i j (xL K w ++ (mL K v ++ L)) pc ls st) : gJ Γ K i j (mL K v ++ (xL K w ++ L)) pc ls st := g_perm (by rw [← List.append_assoc, ← List.append_assoc]; exact List.Perm.append_right _ List.perm_append_comm) k
/-- the script stands apart from all that the run may write -/
def gScr (Γ : gT) (b n : Nat) (xs : Nat → Int32) : Prop := va_X b n xs Γ.s Γ.s.heap ∧ b < Γ.s.heap.size ∧ ¬ Γ.A b
theorem g_sld (C : gC Γ K own cc nL rm) {b n : Nat} {xs : Nat → Int32} (hX : gScr Γ b n xs) {x : Int32} (hin : vp_in x n) (hdg : decode cc pc = .ok (.iaload, 1)) (k : gJ Γ K i j V (pc + 1) ls (.int (xs x.toNatClampNeg) :: st)) : gJ Γ K i j V pc ls (.int x :: .ref b :: st) := fun H locs la hP hD hS hl => va_sld C.x C.b hX.1 hX.2.1 hX.2.2 hS hin hdg (k H locs la hP hD hS hl)
theorem g_slen (C : gC Γ K own cc nL rm) {b n : Nat} {xs : Nat → Int32} (hX : gScr Γ b n xs) (hdg : decode cc pc = .ok (.arraylength, 1)) (k : gJ Γ K i j V (pc + 1) ls (.int (Int32.ofNat n) :: st)) : gJ Γ K i j V pc ls (.ref b :: st) := fun H locs la hP hD hS hl => va_slen C.x C.b hX.1 hX.2.1 hX.2.2 hS hdg (k H locs la hP hD hS hl)
theorem g_callHV (C : gC Γ K own cc nL rm) {y : MethodName} {cy : ByteArray} {nLy : Nat} {rt : Option FieldType} {hh : List (Nat × Nat × Nat × Nat)} {rmy : Room} {As rest : List Value} {b : Nat} {post : Int32 → va_W → Prop} {m x0 : Nat} {Cn : String} (hM : gHi Γ.l K y cy nLy rt hh rmy (.ref b :: As) V post m) (hG : GoodIn lw_all (wsV own x0 Cn y (wsW_ y cy nLy rt hh))) {T : u_T} {N ci qi : Nat} {fs : List Value} (hcl : gCl[ci]? = some (Cn, T, N)) (hq : V[qi]? = some (b, .inr (ci, fs))) (hrm : rmy.cells = m ∧ rmy.slots = 4 * m) (hR : rmy.frames + 1 ≤ rm.frames ∧ 8 + (nLy + 11) + rmy.locals ≤ rm.locals) (n : Nat) (hn : As.length = n) (hd : y.cls = Cn ∧ y.cls ≠ "java/lang/invoke/MethodHandle" ∧ y.cls ≠ "java/lang/invoke/VarHandle" ∧ (parseMethodDescriptor y.desc).map (fun d => d.parameters.length) = some n) (hst : st = As.reverse ++ .ref b :: rest) (hcat : (rest.map fun v => v.category).sum ≤ 8) (hbud : i + m ≤ rm.cells ∧ 4 * i + 4 * m ≤ rm.slots) (hdg : decode cc pc = .ok (.invokevirtual x0, 3)) (k : ∀ (r : Int32) (V1 : va_W), post r V1 → gJ Γ K (i + m) (4 * (i + m)) V1 (pc + 3) ls (.int r :: rest)) : gJ Γ K i (4 * i) V pc ls st := by
  subst hst
  intro H locs la hP hD hS hl
  have hF : ∀ q, va_A V H.size q → Γ.A q := g_free C hD hS
  exact va_calli (vx_runVW (As := As) (rest := rest) C.f (hM H.size) (vx_cwVW n C.t hG rfl hrm.1 hrm.2 hd (by rw [C.r]; exact hR)) ⟨g_blind, va_recv C.k hP hcl hq, g_pre C hP hD hS _⟩ rfl hn (hl.1.trans C.n) rfl (lv_room hcat) hdg (by rw [C.r]; exact hbud)) hS (fun q _ h => hF q h) hF (fun r u t H1 locs1 ht hvm hw hB hz hk hS1 => by have := k r u hw H1 locs1 la (by rw [← ht]; exact hB.1) (hB.2.weaken (fun _ _ _ h => hF _ h)) hS1 hl; rw [Nat.mul_add] at this; exact this)
theorem g_callHS (C : gC Γ K own cc nL rm) {y : MethodName} {cy : ByteArray} {nLy : Nat} {rt : Option FieldType} {hh : List (Nat × Nat × Nat × Nat)} {rmy : Room} {As rest : List Value} {post : Int32 → va_W → Prop} {m x0 : Nat} (hM : gHi Γ.l K y cy nLy rt hh rmy As V post m) (hG : GoodIn lw_all (va_wsS own x0 y (wsW_ y cy nLy rt hh))) (hrm : rmy.cells = m ∧ rmy.slots = 4 * m) (hR : rmy.frames + 1 ≤ rm.frames ∧ 8 + (nLy + 11) + rmy.locals ≤ rm.locals) (n : Nat) (hn : As.length = n) (hd : y.cls ≠ "java/lang/invoke/MethodHandle" ∧ y.cls ≠ "java/lang/invoke/VarHandle" ∧ (parseMethodDescriptor y.desc).map (fun d => d.parameters.length) = some n) (hst : st = As.reverse ++ rest) (hcat : (rest.map fun v => v.category).sum ≤ 8) (hbud : i + m ≤ rm.cells ∧ 4 * i + 4 * m ≤ rm.slots) (hdg : decode cc pc = .ok (.invokestatic x0, 3)) (k : ∀ (r : Int32) (V1 : va_W), post r V1 → gJ Γ K (i + m) (4 * (i + m)) V1 (pc + 3) ls (.int r :: rest)) : gJ Γ K i (4 * i) V pc ls st := by
  subst hst
  intro H locs la hP hD hS hl
  have hF : ∀ q, va_A V H.size q → Γ.A q := g_free C hD hS
  exact va_calli (vx_runSW (As := As) (rest := rest) C.f (hM H.size) (vx_cwSW n C.t hG rfl hrm.1 hrm.2 hd (by rw [C.r]; exact hR)) ⟨g_blind, g_pre C hP hD hS _⟩ rfl hn (hl.1.trans C.n) rfl (lv_room hcat) hdg (by rw [C.r]; exact hbud)) hS (fun q _ h => hF q h) hF (fun r u t H1 locs1 ht hvm hw hB hz hk hS1 => by have := k r u hw H1 locs1 la (by rw [← ht]; exact hB.1) (hB.2.weaken (fun _ _ _ h => hF _ h)) hS1 hl; rw [Nat.mul_add] at this; exact this)
end
theorem m_at {K : gK} {v : Wd} {L : va_W} {k : Nat} {e : Nat × va_E} (h : L[k]? = some e) : (mL K v ++ L)[27 + k]? = some e := by
  rw [List.getElem?_append_right (by show 27 ≤ _; omega)]
  rw [show 27 + k - (mL K v).length = k from by show 27 + k - 27 = k; omega]
  exact h
def B_law_c0 (K : gK) (n : Nat) (xs : Nat → Int32) (qo N : Nat) (r : Nat → Int32 → Wd → Wd → va_W → Prop) (c : Nat) (x4 : Int32) (w v : Wd) (L : va_W) : Prop :=
  vp_in (x4 + 1) n ∧ vp_in (x4 + 2) n ∧ vp_in (x4 + 3) n ∧ vp_in (x4 + 4) n ∧ vp_in (x4 + 5) n ∧ B_X1_feed N (xs (x4 + 1).toNatClampNeg) (xs (x4 + 2).toNatClampNeg) (xs (x4 + 3).toNatClampNeg) (xs (x4 + 4).toNatClampNeg) (xs (x4 + 5).toNatClampNeg) (fun (v1 : Int32) (w2 : Wd) (L3 : va_W) => ∃ L4 : va_W, L3 = mL K v ++ L4 ∧
    vp_in (x4 + 1) n ∧ vp_in (x4 + 2) n ∧ vp_in (x4 + 3) n ∧ vp_in (x4 + 4) n ∧ vp_in (x4 + 5) n ∧ B_X5_feed N (xs (x4 + 1).toNatClampNeg) (xs (x4 + 2).toNatClampNeg) (xs (x4 + 3).toNatClampNeg) (xs (x4 + 4).toNatClampNeg) (xs (x4 + 5).toNatClampNeg) (fun (v6 : Int32) (u7 : Wd) (L8 : va_W) => L8 = xL K w2 ++ L4 ∧
    (v1 = v6 →
    r c (x4 + 7) w2 u7 L4) ∧
  (¬ v1 = v6 →
    False)) v (xL K w2 ++ L4)) w (mL K v ++ L)
set_option maxHeartbeats 4000000 in
theorem k_law_c0 {Γ : gT} {K : gK} {N b n qo : Nat} {xs : Nat → Int32} (C : gC Γ K "OneBearsLaw" cL_law 7 room_1) (hX : gScr Γ b n xs) (hl0 : Γ.l.stackTraces = false) (done : ∀ (c : Nat) (V : va_W) (pc : Nat) (ls : List (Nat × Value)), c ≤ 1200128 → decode cL_law pc = .ok (.ireturn, 1) → gJ Γ K c (4 * c) V pc ls [.int 1]) {r : Nat → Int32 → Wd → Wd → va_W → Prop} (hr : ∀ (c : Nat) (x4 : Int32) (w v : Wd) (L : va_W), c ≤ 1200128 → r c x4 w v L → gJ Γ K c (4 * c) (xL K w ++ (mL K v ++ L)) 23 [(0, .ref b), (1, .ref (xa K 0)), (2, .ref (ma K 0)), (3, .ref qo), (4, .int x4)] []) (c : Nat) (x4 : Int32) (w v : Wd) (L : va_W) (hi : c ≤ 1200128) (h : B_law_c0 K n xs qo N r c x4 w v L) : gJ Γ K c (4 * c) (xL K w ++ (mL K v ++ L)) 156 [(0, .ref b), (1, .ref (xa K 0)), (2, .ref (ma K 0)), (3, .ref qo), (4, .int x4)] [] := by
  unfold B_law_c0 at h
  refine g_aload_n C 1 rfl dL_law_156 ?_
  refine g_aload_n C 0 rfl dL_law_157 ?_
  refine g_iload C 4 rfl dL_law_158 ?_
  refine g_iconst C 1 (by decide) dL_law_160 ?_
  refine g_iadd C dL_law_161 ?_
  obtain ⟨hb, h⟩ := h
  refine g_sld C hX hb dL_law_162 ?_
  refine g_aload_n C 0 rfl dL_law_163 ?_
  refine g_iload C 4 rfl dL_law_164 ?_
  refine g_iconst C 2 (by decide) dL_law_166 ?_
  refine g_iadd C dL_law_167 ?_
  obtain ⟨hb, h⟩ := h
  refine g_sld C hX hb dL_law_168 ?_
  refine g_aload_n C 0 rfl dL_law_169 ?_
  refine g_iload C 4 rfl dL_law_170 ?_
  refine g_iconst C 3 (by decide) dL_law_172 ?_
  refine g_iadd C dL_law_173 ?_
  obtain ⟨hb, h⟩ := h
  refine g_sld C hX hb dL_law_174 ?_
  refine g_aload_n C 0 rfl dL_law_175 ?_
  refine g_iload C 4 rfl dL_law_176 ?_
  refine g_iconst C 4 (by decide) dL_law_178 ?_
  refine g_iadd C dL_law_179 ?_
  obtain ⟨hb, h⟩ := h
  refine g_sld C hX hb dL_law_180 ?_
  refine g_aload_n C 0 rfl dL_law_181 ?_
  refine g_iload C 4 rfl dL_law_182 ?_
  refine g_iconst C 5 (by decide) dL_law_184 ?_
  refine g_iadd C dL_law_185 ?_
  obtain ⟨hb, h⟩ := h
  refine g_sld C hX hb dL_law_186 ?_
  refine g_callVi C (As := [.int (xs (x4 + 1).toNatClampNeg), .int (xs (x4 + 2).toNatClampNeg), .int (xs (x4 + 3).toNatClampNeg), .int (xs (x4 + 4).toNatClampNeg), .int (xs (x4 + 5).toNatClampNeg)]) (rest := []) (m_X1_feed h) (lw_V q350 q351 q352 q78 q353) (ci := 0) (qi := 0) rfl rfl ⟨rfl, rfl⟩ ⟨Nat.le_of_ble_eq_true rfl, Nat.le_of_ble_eq_true rfl⟩ 5 rfl (by decide +kernel) rfl (Nat.le_of_ble_eq_true rfl) ⟨hi, by show 4 * (c) ≤ 5501098; omega⟩ dL_law_187 ?_
  rintro v1 _ ⟨w2, L3, rfl, L4, e5, h⟩
  subst e5
  refine g_aload_n C 2 rfl dL_law_190 ?_
  refine g_aload_n C 0 rfl dL_law_191 ?_
  refine g_iload C 4 rfl dL_law_192 ?_
  refine g_iconst C 1 (by decide) dL_law_194 ?_
  refine g_iadd C dL_law_195 ?_
  obtain ⟨hb, h⟩ := h
  refine g_sld C hX hb dL_law_196 ?_
  refine g_aload_n C 0 rfl dL_law_197 ?_
  refine g_iload C 4 rfl dL_law_198 ?_
  refine g_iconst C 2 (by decide) dL_law_200 ?_
  refine g_iadd C dL_law_201 ?_
  obtain ⟨hb, h⟩ := h
  refine g_sld C hX hb dL_law_202 ?_
  refine g_aload_n C 0 rfl dL_law_203 ?_
  refine g_iload C 4 rfl dL_law_204 ?_
  refine g_iconst C 3 (by decide) dL_law_206 ?_
  refine g_iadd C dL_law_207 ?_
  obtain ⟨hb, h⟩ := h
  refine g_sld C hX hb dL_law_208 ?_
  refine g_aload_n C 0 rfl dL_law_209 ?_
  refine g_iload C 4 rfl dL_law_210 ?_
  refine g_iconst C 4 (by decide) dL_law_212 ?_
  refine g_iadd C dL_law_213 ?_
  obtain ⟨hb, h⟩ := h
  refine g_sld C hX hb dL_law_214 ?_
  refine g_aload_n C 0 rfl dL_law_215 ?_
  refine g_iload C 4 rfl dL_law_216 ?_
  refine g_iconst C 5 (by decide) dL_law_218 ?_
  refine g_iadd C dL_law_219 ?_
  obtain ⟨hb, h⟩ := h
  refine g_sld C hX hb dL_law_220 ?_
  refine g_swap ?_
  refine g_callVi C (As := [.int (xs (x4 + 1).toNatClampNeg), .int (xs (x4 + 2).toNatClampNeg), .int (xs (x4 + 3).toNatClampNeg), .int (xs (x4 + 4).toNatClampNeg), .int (xs (x4 + 5).toNatClampNeg)]) (rest := [.int v1]) (m_X5_feed h) (lw_V q1172 q1173 q1174 q84 q1175) (ci := 12) (qi := 0) rfl rfl ⟨rfl, rfl⟩ ⟨Nat.le_of_ble_eq_true rfl, Nat.le_of_ble_eq_true rfl⟩ 5 rfl (by decide +kernel) rfl (Nat.le_of_ble_eq_true rfl) ⟨hi, by show 4 * (c) ≤ 5501098; omega⟩ dL_law_221 ?_
  rintro v6 _ ⟨u7, L8, rfl, e9, h⟩
  subst e9
  refine g_swap' ?_
  refine g_icmp_eq C 1461 dL_law_224 (by decide) (fun hc => ?_) (fun hc => ?_)
  · replace h := h.1 hc
    refine g_iinc C 4 (x4 + 7) (lt := [(4, .int (x4 + 7)), (0, .ref b), (1, .ref (xa K 0)), (2, .ref (ma K 0)), (3, .ref qo)]) rfl rfl dL_law_1461 (by decide) rfl ?_
    refine g_goto C 23 dL_law_1464 (by decide) ?_
    refine g_sub [1, 2, 3, 4, 0] rfl ?_
    exact hr c (x4 + 7) w2 u7 L4 hi h
  · replace h := h.2 hc
    refine g_iconst C 0 (by decide) dL_law_227 ?_
    exact h.elim
def B_law_c1 (K : gK) (n : Nat) (xs : Nat → Int32) (qo N : Nat) (r : Nat → Int32 → Wd → Wd → va_W → Prop) (c : Nat) (x4 : Int32) (w v : Wd) (L : va_W) : Prop :=
  vp_in (x4 + 1) n ∧ B_X1_end N (xs (x4 + 1).toNatClampNeg) (fun (v1 : Int32) (w2 : Wd) (L3 : va_W) => ∃ L4 : va_W, L3 = mL K v ++ L4 ∧
    vp_in (x4 + 1) n ∧ B_X5_end N (xs (x4 + 1).toNatClampNeg) (fun (v6 : Int32) (u7 : Wd) (L8 : va_W) => L8 = xL K w2 ++ L4 ∧
    (v1 = v6 →
    r c (x4 + 7) w2 u7 L4) ∧
  (¬ v1 = v6 →
    False)) v (xL K w2 ++ L4)) w (mL K v ++ L)
set_option maxHeartbeats 4000000 in
theorem k_law_c1 {Γ : gT} {K : gK} {N b n qo : Nat} {xs : Nat → Int32} (C : gC Γ K "OneBearsLaw" cL_law 7 room_1) (hX : gScr Γ b n xs) (hl0 : Γ.l.stackTraces = false) (done : ∀ (c : Nat) (V : va_W) (pc : Nat) (ls : List (Nat × Value)), c ≤ 1200128 → decode cL_law pc = .ok (.ireturn, 1) → gJ Γ K c (4 * c) V pc ls [.int 1]) {r : Nat → Int32 → Wd → Wd → va_W → Prop} (hr : ∀ (c : Nat) (x4 : Int32) (w v : Wd) (L : va_W), c ≤ 1200128 → r c x4 w v L → gJ Γ K c (4 * c) (xL K w ++ (mL K v ++ L)) 23 [(0, .ref b), (1, .ref (xa K 0)), (2, .ref (ma K 0)), (3, .ref qo), (4, .int x4)] []) (c : Nat) (x4 : Int32) (w v : Wd) (L : va_W) (hi : c ≤ 1200128) (h : B_law_c1 K n xs qo N r c x4 w v L) : gJ Γ K c (4 * c) (xL K w ++ (mL K v ++ L)) 229 [(0, .ref b), (1, .ref (xa K 0)), (2, .ref (ma K 0)), (3, .ref qo), (4, .int x4)] [] := by
  unfold B_law_c1 at h
  refine g_aload_n C 1 rfl dL_law_229 ?_
  refine g_aload_n C 0 rfl dL_law_230 ?_
  refine g_iload C 4 rfl dL_law_231 ?_
  refine g_iconst C 1 (by decide) dL_law_233 ?_
  refine g_iadd C dL_law_234 ?_
  obtain ⟨hb, h⟩ := h
  refine g_sld C hX hb dL_law_235 ?_
  refine g_callVi C (As := [.int (xs (x4 + 1).toNatClampNeg)]) (rest := []) (m_X1_end h) (lw_V q357 q358 q359 q78 q360) (ci := 0) (qi := 0) rfl rfl ⟨rfl, rfl⟩ ⟨Nat.le_of_ble_eq_true rfl, Nat.le_of_ble_eq_true rfl⟩ 1 rfl (by decide +kernel) rfl (Nat.le_of_ble_eq_true rfl) ⟨hi, by show 4 * (c) ≤ 5501098; omega⟩ dL_law_236 ?_
  rintro v1 _ ⟨w2, L3, rfl, L4, e5, h⟩
  subst e5
  refine g_aload_n C 2 rfl dL_law_239 ?_
  refine g_aload_n C 0 rfl dL_law_240 ?_
  refine g_iload C 4 rfl dL_law_241 ?_
  refine g_iconst C 1 (by decide) dL_law_243 ?_
  refine g_iadd C dL_law_244 ?_
  obtain ⟨hb, h⟩ := h
  refine g_sld C hX hb dL_law_245 ?_
  refine g_swap ?_
  refine g_callVi C (As := [.int (xs (x4 + 1).toNatClampNeg)]) (rest := [.int v1]) (m_X5_end h) (lw_V q1183 q1184 q1185 q84 q1186) (ci := 12) (qi := 0) rfl rfl ⟨rfl, rfl⟩ ⟨Nat.le_of_ble_eq_true rfl, Nat.le_of_ble_eq_true rfl⟩ 1 rfl (by decide +kernel) rfl (Nat.le_of_ble_eq_true rfl) ⟨hi, by show 4 * (c) ≤ 5501098; omega⟩ dL_law_246 ?_
  rintro v6 _ ⟨u7, L8, rfl, e9, h⟩
  subst e9
  refine g_swap' ?_
  refine g_icmp_eq C 1461 dL_law_249 (by decide) (fun hc => ?_) (fun hc => ?_)
  · replace h := h.1 hc
    refine g_iinc C 4 (x4 + 7) (lt := [(4, .int (x4 + 7)), (0, .ref b), (1, .ref (xa K 0)), (2, .ref (ma K 0)), (3, .ref qo)]) rfl rfl dL_law_1461 (by decide) rfl ?_
    refine g_goto C 23 dL_law_1464 (by decide) ?_
    refine g_sub [1, 2, 3, 4, 0] rfl ?_
    exact hr c (x4 + 7) w2 u7 L4 hi h
  · replace h := h.2 hc
    refine g_iconst C 0 (by decide) dL_law_252 ?_
    exact h.elim
def B_law_c2 (K : gK) (n : Nat) (xs : Nat → Int32) (qo N : Nat) (r : Nat → Int32 → Wd → Wd → va_W → Prop) (c : Nat) (x4 : Int32) (w v : Wd) (L : va_W) : Prop :=
  ∃ m6 : Nat, c + m6 ≤ 1200128 ∧ B_X1_fault N m6 (fun (v1 : Int32) (w2 : Wd) (L3 : va_W) => ∃ L4 : va_W, L3 = mL K v ++ L4 ∧
    B_X5_fault N (fun (v7 : Int32) (u8 : Wd) (L9 : va_W) => L9 = xL K w2 ++ L4 ∧
    (v1 = v7 →
    r (c + m6) (x4 + 7) w2 u8 L4) ∧
  (¬ v1 = v7 →
    False)) v (xL K w2 ++ L4)) w (mL K v ++ L)
set_option maxHeartbeats 4000000 in
theorem k_law_c2 {Γ : gT} {K : gK} {N b n qo : Nat} {xs : Nat → Int32} (C : gC Γ K "OneBearsLaw" cL_law 7 room_1) (hX : gScr Γ b n xs) (hl0 : Γ.l.stackTraces = false) (done : ∀ (c : Nat) (V : va_W) (pc : Nat) (ls : List (Nat × Value)), c ≤ 1200128 → decode cL_law pc = .ok (.ireturn, 1) → gJ Γ K c (4 * c) V pc ls [.int 1]) {r : Nat → Int32 → Wd → Wd → va_W → Prop} (hr : ∀ (c : Nat) (x4 : Int32) (w v : Wd) (L : va_W), c ≤ 1200128 → r c x4 w v L → gJ Γ K c (4 * c) (xL K w ++ (mL K v ++ L)) 23 [(0, .ref b), (1, .ref (xa K 0)), (2, .ref (ma K 0)), (3, .ref qo), (4, .int x4)] []) (c : Nat) (x4 : Int32) (w v : Wd) (L : va_W) (hi : c ≤ 1200128) (h : B_law_c2 K n xs qo N r c x4 w v L) : gJ Γ K c (4 * c) (xL K w ++ (mL K v ++ L)) 254 [(0, .ref b), (1, .ref (xa K 0)), (2, .ref (ma K 0)), (3, .ref qo), (4, .int x4)] [] := by
  unfold B_law_c2 at h
  refine g_aload_n C 1 rfl dL_law_254 ?_
  obtain ⟨m6, hm6, h⟩ := h
  refine g_callHV C (As := []) (rest := []) (m_X1_fault h) (lw_VW q361 q362 q363 q78 q364) (ci := 0) (qi := 0) rfl rfl ⟨rfl, rfl⟩ ⟨Nat.le_of_ble_eq_true rfl, Nat.le_of_ble_eq_true rfl⟩ 0 rfl (by decide +kernel) rfl (Nat.le_of_ble_eq_true rfl) ⟨hm6, by show 4 * (c) + 4 * m6 ≤ 5501098; omega⟩ dL_law_255 ?_
  rintro v1 _ ⟨w2, L3, rfl, L4, e5, h⟩
  subst e5
  refine g_aload_n C 2 rfl dL_law_258 ?_
  refine g_swap ?_
  refine g_callVi C (As := []) (rest := [.int v1]) (m_X5_fault h) (lw_V q1187 q1188 q1189 q84 q1190) (ci := 12) (qi := 0) rfl rfl ⟨rfl, rfl⟩ ⟨Nat.le_of_ble_eq_true rfl, Nat.le_of_ble_eq_true rfl⟩ 0 rfl (by decide +kernel) rfl (Nat.le_of_ble_eq_true rfl) ⟨hm6, by show 4 * (c + m6) ≤ 5501098; omega⟩ dL_law_259 ?_
  rintro v7 _ ⟨u8, L9, rfl, e10, h⟩
  subst e10
  refine g_swap' ?_
  refine g_icmp_eq C 1461 dL_law_262 (by decide) (fun hc => ?_) (fun hc => ?_)
  · replace h := h.1 hc
    refine g_iinc C 4 (x4 + 7) (lt := [(4, .int (x4 + 7)), (0, .ref b), (1, .ref (xa K 0)), (2, .ref (ma K 0)), (3, .ref qo)]) rfl rfl dL_law_1461 (by decide) rfl ?_
    refine g_goto C 23 dL_law_1464 (by decide) ?_
    refine g_sub [1, 2, 3, 4, 0] rfl ?_
    exact hr (c + m6) (x4 + 7) w2 u8 L4 hm6 h
  · replace h := h.2 hc
    refine g_iconst C 0 (by decide) dL_law_265 ?_
    exact h.elim
def B_law_c3 (K : gK) (n : Nat) (xs : Nat → Int32) (qo N : Nat) (r : Nat → Int32 → Wd → Wd → va_W → Prop) (c : Nat) (x4 : Int32) (w v : Wd) (L : va_W) : Prop :=
  ∃ m6 : Nat, c + m6 ≤ 1200128 ∧ B_X1_law N m6 (fun (v1 : Int32) (w2 : Wd) (L3 : va_W) => ∃ L4 : va_W, L3 = mL K v ++ L4 ∧
    B_X5_law N (fun (v7 : Int32) (u8 : Wd) (L9 : va_W) => L9 = xL K w2 ++ L4 ∧
    (v1 = v7 →
    r (c + m6) (x4 + 7) w2 u8 L4) ∧
  (¬ v1 = v7 →
    False)) v (xL K w2 ++ L4)) w (mL K v ++ L)
set_option maxHeartbeats 4000000 in
theorem k_law_c3 {Γ : gT} {K : gK} {N b n qo : Nat} {xs : Nat → Int32} (C : gC Γ K "OneBearsLaw" cL_law 7 room_1) (hX : gScr Γ b n xs) (hl0 : Γ.l.stackTraces = false) (done : ∀ (c : Nat) (V : va_W) (pc : Nat) (ls : List (Nat × Value)), c ≤ 1200128 → decode cL_law pc = .ok (.ireturn, 1) → gJ Γ K c (4 * c) V pc ls [.int 1]) {r : Nat → Int32 → Wd → Wd → va_W → Prop} (hr : ∀ (c : Nat) (x4 : Int32) (w v : Wd) (L : va_W), c ≤ 1200128 → r c x4 w v L → gJ Γ K c (4 * c) (xL K w ++ (mL K v ++ L)) 23 [(0, .ref b), (1, .ref (xa K 0)), (2, .ref (ma K 0)), (3, .ref qo), (4, .int x4)] []) (c : Nat) (x4 : Int32) (w v : Wd) (L : va_W) (hi : c ≤ 1200128) (h : B_law_c3 K n xs qo N r c x4 w v L) : gJ Γ K c (4 * c) (xL K w ++ (mL K v ++ L)) 267 [(0, .ref b), (1, .ref (xa K 0)), (2, .ref (ma K 0)), (3, .ref qo), (4, .int x4)] [] := by
  unfold B_law_c3 at h
  refine g_aload_n C 1 rfl dL_law_267 ?_
  obtain ⟨m6, hm6, h⟩ := h
  refine g_callHV C (As := []) (rest := []) (m_X1_law h) (lw_VW q645 q646 q647 q78 q648) (ci := 0) (qi := 0) rfl rfl ⟨rfl, rfl⟩ ⟨Nat.le_of_ble_eq_true rfl, Nat.le_of_ble_eq_true rfl⟩ 0 rfl (by decide +kernel) rfl (Nat.le_of_ble_eq_true rfl) ⟨hm6, by show 4 * (c) + 4 * m6 ≤ 5501098; omega⟩ dL_law_268 ?_
  rintro v1 _ ⟨w2, L3, rfl, L4, e5, h⟩
  subst e5
  refine g_aload_n C 2 rfl dL_law_271 ?_
  refine g_swap ?_
  refine g_callVi C (As := []) (rest := [.int v1]) (m_X5_law h) (lw_V q1262 q1263 q1264 q84 q1265) (ci := 12) (qi := 0) rfl rfl ⟨rfl, rfl⟩ ⟨Nat.le_of_ble_eq_true rfl, Nat.le_of_ble_eq_true rfl⟩ 0 rfl (by decide +kernel) rfl (Nat.le_of_ble_eq_true rfl) ⟨hm6, by show 4 * (c + m6) ≤ 5501098; omega⟩ dL_law_272 ?_
  rintro v7 _ ⟨u8, L9, rfl, e10, h⟩
  subst e10
  refine g_swap' ?_
  refine g_icmp_eq C 1461 dL_law_275 (by decide) (fun hc => ?_) (fun hc => ?_)
  · replace h := h.1 hc
    refine g_iinc C 4 (x4 + 7) (lt := [(4, .int (x4 + 7)), (0, .ref b), (1, .ref (xa K 0)), (2, .ref (ma K 0)), (3, .ref qo)]) rfl rfl dL_law_1461 (by decide) rfl ?_
    refine g_goto C 23 dL_law_1464 (by decide) ?_
    refine g_sub [1, 2, 3, 4, 0] rfl ?_
    exact hr (c + m6) (x4 + 7) w2 u8 L4 hm6 h
  · replace h := h.2 hc
    refine g_iconst C 0 (by decide) dL_law_278 ?_
    exact h.elim
def B_law_c4 (K : gK) (n : Nat) (xs : Nat → Int32) (qo N : Nat) (r : Nat → Int32 → Wd → Wd → va_W → Prop) (c : Nat) (x4 : Int32) (w v : Wd) (L : va_W) : Prop :=
  vp_in (x4 + 1) n ∧ vp_in (x4 + 2) n ∧ vp_in (x4 + 3) n ∧ B_X1_animal N (xs (x4 + 1).toNatClampNeg) (xs (x4 + 2).toNatClampNeg) (xs (x4 + 3).toNatClampNeg) (fun (v1 : Int32) (w2 : Wd) (L3 : va_W) => ∃ L4 : va_W, L3 = mL K v ++ L4 ∧
    vp_in (x4 + 1) n ∧ vp_in (x4 + 2) n ∧ vp_in (x4 + 3) n ∧ B_X5_animal N (xs (x4 + 1).toNatClampNeg) (xs (x4 + 2).toNatClampNeg) (xs (x4 + 3).toNatClampNeg) (fun (v6 : Int32) (u7 : Wd) (L8 : va_W) => L8 = xL K w2 ++ L4 ∧
    (v1 = v6 →
    r c (x4 + 7) w2 u7 L4) ∧
  (¬ v1 = v6 →
    False)) v (xL K w2 ++ L4)) w (mL K v ++ L)
set_option maxHeartbeats 4000000 in
theorem k_law_c4 {Γ : gT} {K : gK} {N b n qo : Nat} {xs : Nat → Int32} (C : gC Γ K "OneBearsLaw" cL_law 7 room_1) (hX : gScr Γ b n xs) (hl0 : Γ.l.stackTraces = false) (done : ∀ (c : Nat) (V : va_W) (pc : Nat) (ls : List (Nat × Value)), c ≤ 1200128 → decode cL_law pc = .ok (.ireturn, 1) → gJ Γ K c (4 * c) V pc ls [.int 1]) {r : Nat → Int32 → Wd → Wd → va_W → Prop} (hr : ∀ (c : Nat) (x4 : Int32) (w v : Wd) (L : va_W), c ≤ 1200128 → r c x4 w v L → gJ Γ K c (4 * c) (xL K w ++ (mL K v ++ L)) 23 [(0, .ref b), (1, .ref (xa K 0)), (2, .ref (ma K 0)), (3, .ref qo), (4, .int x4)] []) (c : Nat) (x4 : Int32) (w v : Wd) (L : va_W) (hi : c ≤ 1200128) (h : B_law_c4 K n xs qo N r c x4 w v L) : gJ Γ K c (4 * c) (xL K w ++ (mL K v ++ L)) 280 [(0, .ref b), (1, .ref (xa K 0)), (2, .ref (ma K 0)), (3, .ref qo), (4, .int x4)] [] := by
  unfold B_law_c4 at h
  refine g_aload_n C 1 rfl dL_law_280 ?_
  refine g_aload_n C 0 rfl dL_law_281 ?_
  refine g_iload C 4 rfl dL_law_282 ?_
  refine g_iconst C 1 (by decide) dL_law_284 ?_
  refine g_iadd C dL_law_285 ?_
  obtain ⟨hb, h⟩ := h
  refine g_sld C hX hb dL_law_286 ?_
  refine g_aload_n C 0 rfl dL_law_287 ?_
  refine g_iload C 4 rfl dL_law_288 ?_
  refine g_iconst C 2 (by decide) dL_law_290 ?_
  refine g_iadd C dL_law_291 ?_
  obtain ⟨hb, h⟩ := h
  refine g_sld C hX hb dL_law_292 ?_
  refine g_aload_n C 0 rfl dL_law_293 ?_
  refine g_iload C 4 rfl dL_law_294 ?_
  refine g_iconst C 3 (by decide) dL_law_296 ?_
  refine g_iadd C dL_law_297 ?_
  obtain ⟨hb, h⟩ := h
  refine g_sld C hX hb dL_law_298 ?_
  refine g_callVi C (As := [.int (xs (x4 + 1).toNatClampNeg), .int (xs (x4 + 2).toNatClampNeg), .int (xs (x4 + 3).toNatClampNeg)]) (rest := []) (m_X1_animal h) (lw_V q649 q650 q651 q78 q652) (ci := 0) (qi := 0) rfl rfl ⟨rfl, rfl⟩ ⟨Nat.le_of_ble_eq_true rfl, Nat.le_of_ble_eq_true rfl⟩ 3 rfl (by decide +kernel) rfl (Nat.le_of_ble_eq_true rfl) ⟨hi, by show 4 * (c) ≤ 5501098; omega⟩ dL_law_299 ?_
  rintro v1 _ ⟨w2, L3, rfl, L4, e5, h⟩
  subst e5
  refine g_aload_n C 2 rfl dL_law_302 ?_
  refine g_aload_n C 0 rfl dL_law_303 ?_
  refine g_iload C 4 rfl dL_law_304 ?_
  refine g_iconst C 1 (by decide) dL_law_306 ?_
  refine g_iadd C dL_law_307 ?_
  obtain ⟨hb, h⟩ := h
  refine g_sld C hX hb dL_law_308 ?_
  refine g_aload_n C 0 rfl dL_law_309 ?_
  refine g_iload C 4 rfl dL_law_310 ?_
  refine g_iconst C 2 (by decide) dL_law_312 ?_
  refine g_iadd C dL_law_313 ?_
  obtain ⟨hb, h⟩ := h
  refine g_sld C hX hb dL_law_314 ?_
  refine g_aload_n C 0 rfl dL_law_315 ?_
  refine g_iload C 4 rfl dL_law_316 ?_
  refine g_iconst C 3 (by decide) dL_law_318 ?_
  refine g_iadd C dL_law_319 ?_
  obtain ⟨hb, h⟩ := h
  refine g_sld C hX hb dL_law_320 ?_
  refine g_swap ?_
  refine g_callVi C (As := [.int (xs (x4 + 1).toNatClampNeg), .int (xs (x4 + 2).toNatClampNeg), .int (xs (x4 + 3).toNatClampNeg)]) (rest := [.int v1]) (m_X5_animal h) (lw_V q1266 q1267 q1268 q84 q1269) (ci := 12) (qi := 0) rfl rfl ⟨rfl, rfl⟩ ⟨Nat.le_of_ble_eq_true rfl, Nat.le_of_ble_eq_true rfl⟩ 3 rfl (by decide +kernel) rfl (Nat.le_of_ble_eq_true rfl) ⟨hi, by show 4 * (c) ≤ 5501098; omega⟩ dL_law_321 ?_
  rintro v6 _ ⟨u7, L8, rfl, e9, h⟩
  subst e9
  refine g_swap' ?_
  refine g_icmp_eq C 1461 dL_law_324 (by decide) (fun hc => ?_) (fun hc => ?_)
  · replace h := h.1 hc
    refine g_iinc C 4 (x4 + 7) (lt := [(4, .int (x4 + 7)), (0, .ref b), (1, .ref (xa K 0)), (2, .ref (ma K 0)), (3, .ref qo)]) rfl rfl dL_law_1461 (by decide) rfl ?_
    refine g_goto C 23 dL_law_1464 (by decide) ?_
    refine g_sub [1, 2, 3, 4, 0] rfl ?_
    exact hr c (x4 + 7) w2 u7 L4 hi h
  · replace h := h.2 hc
    refine g_iconst C 0 (by decide) dL_law_327 ?_
    exact h.elim
def B_law_c5 (K : gK) (n : Nat) (xs : Nat → Int32) (qo N : Nat) (r : Nat → Int32 → Wd → Wd → va_W → Prop) (c : Nat) (x4 : Int32) (w v : Wd) (L : va_W) : Prop :=
  vp_in (x4 + 1) n ∧ vp_in (x4 + 2) n ∧ B_X1_kin N (xs (x4 + 1).toNatClampNeg) (xs (x4 + 2).toNatClampNeg) (fun (v1 : Int64) (w2 : Wd) (L3 : va_W) => ∃ L4 : va_W, L3 = mL K v ++ L4 ∧
    vp_in (x4 + 1) n ∧ vp_in (x4 + 2) n ∧ B_X5_kin N (xs (x4 + 1).toNatClampNeg) (xs (x4 + 2).toNatClampNeg) (fun (v6 : Int64) (u7 : Wd) (L8 : va_W) => L8 = xL K w2 ++ L4 ∧
    (v1 = v6 →
    r c (x4 + 7) w2 u7 L4) ∧
  (¬ v1 = v6 →
    False)) v (xL K w2 ++ L4)) w (mL K v ++ L)
set_option maxHeartbeats 4000000 in
theorem k_law_c5 {Γ : gT} {K : gK} {N b n qo : Nat} {xs : Nat → Int32} (C : gC Γ K "OneBearsLaw" cL_law 7 room_1) (hX : gScr Γ b n xs) (hl0 : Γ.l.stackTraces = false) (done : ∀ (c : Nat) (V : va_W) (pc : Nat) (ls : List (Nat × Value)), c ≤ 1200128 → decode cL_law pc = .ok (.ireturn, 1) → gJ Γ K c (4 * c) V pc ls [.int 1]) {r : Nat → Int32 → Wd → Wd → va_W → Prop} (hr : ∀ (c : Nat) (x4 : Int32) (w v : Wd) (L : va_W), c ≤ 1200128 → r c x4 w v L → gJ Γ K c (4 * c) (xL K w ++ (mL K v ++ L)) 23 [(0, .ref b), (1, .ref (xa K 0)), (2, .ref (ma K 0)), (3, .ref qo), (4, .int x4)] []) (c : Nat) (x4 : Int32) (w v : Wd) (L : va_W) (hi : c ≤ 1200128) (h : B_law_c5 K n xs qo N r c x4 w v L) : gJ Γ K c (4 * c) (xL K w ++ (mL K v ++ L)) 329 [(0, .ref b), (1, .ref (xa K 0)), (2, .ref (ma K 0)), (3, .ref qo), (4, .int x4)] [] := by
  unfold B_law_c5 at h
  refine g_aload_n C 1 rfl dL_law_329 ?_
  refine g_aload_n C 0 rfl dL_law_330 ?_
  refine g_iload C 4 rfl dL_law_331 ?_
  refine g_iconst C 1 (by decide) dL_law_333 ?_
  refine g_iadd C dL_law_334 ?_
  obtain ⟨hb, h⟩ := h
  refine g_sld C hX hb dL_law_335 ?_
  refine g_aload_n C 0 rfl dL_law_336 ?_
  refine g_iload C 4 rfl dL_law_337 ?_
  refine g_iconst C 2 (by decide) dL_law_339 ?_
  refine g_iadd C dL_law_340 ?_
  obtain ⟨hb, h⟩ := h
  refine g_sld C hX hb dL_law_341 ?_
  refine g_callVl C (As := [.int (xs (x4 + 1).toNatClampNeg), .int (xs (x4 + 2).toNatClampNeg)]) (rest := []) (m_X1_kin h) (lw_V q665 q666 q667 q78 q668) (ci := 0) (qi := 0) rfl rfl ⟨rfl, rfl⟩ ⟨Nat.le_of_ble_eq_true rfl, Nat.le_of_ble_eq_true rfl⟩ 2 rfl (by decide +kernel) rfl (Nat.le_of_ble_eq_true rfl) ⟨hi, by show 4 * (c) ≤ 5501098; omega⟩ dL_law_342 ?_
  rintro v1 _ ⟨w2, L3, rfl, L4, e5, h⟩
  subst e5
  refine g_aload_n C 2 rfl dL_law_345 ?_
  refine g_aload_n C 0 rfl dL_law_346 ?_
  refine g_iload C 4 rfl dL_law_347 ?_
  refine g_iconst C 1 (by decide) dL_law_349 ?_
  refine g_iadd C dL_law_350 ?_
  obtain ⟨hb, h⟩ := h
  refine g_sld C hX hb dL_law_351 ?_
  refine g_aload_n C 0 rfl dL_law_352 ?_
  refine g_iload C 4 rfl dL_law_353 ?_
  refine g_iconst C 2 (by decide) dL_law_355 ?_
  refine g_iadd C dL_law_356 ?_
  obtain ⟨hb, h⟩ := h
  refine g_sld C hX hb dL_law_357 ?_
  refine g_swap ?_
  refine g_callVl C (As := [.int (xs (x4 + 1).toNatClampNeg), .int (xs (x4 + 2).toNatClampNeg)]) (rest := [.long v1]) (m_X5_kin h) (lw_V q1277 q1278 q1279 q84 q1280) (ci := 12) (qi := 0) rfl rfl ⟨rfl, rfl⟩ ⟨Nat.le_of_ble_eq_true rfl, Nat.le_of_ble_eq_true rfl⟩ 2 rfl (by decide +kernel) rfl (Nat.le_of_ble_eq_true rfl) ⟨hi, by show 4 * (c) ≤ 5501098; omega⟩ dL_law_358 ?_
  rintro v6 _ ⟨u7, L8, rfl, e9, h⟩
  subst e9
  refine g_swap' ?_
  refine g_lif_eq C 1461 dL_law_361 dL_law_362 (by decide) (fun hc => ?_) (fun hc => ?_)
  · replace h := h.1 hc
    refine g_iinc C 4 (x4 + 7) (lt := [(4, .int (x4 + 7)), (0, .ref b), (1, .ref (xa K 0)), (2, .ref (ma K 0)), (3, .ref qo)]) rfl rfl dL_law_1461 (by decide) rfl ?_
    refine g_goto C 23 dL_law_1464 (by decide) ?_
    refine g_sub [1, 2, 3, 4, 0] rfl ?_
    exact hr c (x4 + 7) w2 u7 L4 hi h
  · replace h := h.2 hc
    refine g_iconst C 0 (by decide) dL_law_365 ?_
    exact h.elim
def B_law_c6 (K : gK) (n : Nat) (xs : Nat → Int32) (qo N : Nat) (r : Nat → Int32 → Wd → Wd → va_W → Prop) (c : Nat) (x4 : Int32) (w v : Wd) (L : va_W) : Prop :=
  vp_in (x4 + 1) n ∧ vp_in (x4 + 2) n ∧ vp_in (x4 + 3) n ∧ B_X1_young N (xs (x4 + 1).toNatClampNeg) (xs (x4 + 2).toNatClampNeg) (xs (x4 + 3).toNatClampNeg) (fun (v1 : Int64) (w2 : Wd) (L3 : va_W) => ∃ L4 : va_W, L3 = mL K v ++ L4 ∧
    vp_in (x4 + 1) n ∧ vp_in (x4 + 2) n ∧ vp_in (x4 + 3) n ∧ B_X5_young N (xs (x4 + 1).toNatClampNeg) (xs (x4 + 2).toNatClampNeg) (xs (x4 + 3).toNatClampNeg) (fun (v6 : Int64) (u7 : Wd) (L8 : va_W) => L8 = xL K w2 ++ L4 ∧
    (v1 = v6 →
    r c (x4 + 7) w2 u7 L4) ∧
  (¬ v1 = v6 →
    False)) v (xL K w2 ++ L4)) w (mL K v ++ L)
set_option maxHeartbeats 4000000 in
theorem k_law_c6 {Γ : gT} {K : gK} {N b n qo : Nat} {xs : Nat → Int32} (C : gC Γ K "OneBearsLaw" cL_law 7 room_1) (hX : gScr Γ b n xs) (hl0 : Γ.l.stackTraces = false) (done : ∀ (c : Nat) (V : va_W) (pc : Nat) (ls : List (Nat × Value)), c ≤ 1200128 → decode cL_law pc = .ok (.ireturn, 1) → gJ Γ K c (4 * c) V pc ls [.int 1]) {r : Nat → Int32 → Wd → Wd → va_W → Prop} (hr : ∀ (c : Nat) (x4 : Int32) (w v : Wd) (L : va_W), c ≤ 1200128 → r c x4 w v L → gJ Γ K c (4 * c) (xL K w ++ (mL K v ++ L)) 23 [(0, .ref b), (1, .ref (xa K 0)), (2, .ref (ma K 0)), (3, .ref qo), (4, .int x4)] []) (c : Nat) (x4 : Int32) (w v : Wd) (L : va_W) (hi : c ≤ 1200128) (h : B_law_c6 K n xs qo N r c x4 w v L) : gJ Γ K c (4 * c) (xL K w ++ (mL K v ++ L)) 367 [(0, .ref b), (1, .ref (xa K 0)), (2, .ref (ma K 0)), (3, .ref qo), (4, .int x4)] [] := by
  unfold B_law_c6 at h
  refine g_aload_n C 1 rfl dL_law_367 ?_
  refine g_aload_n C 0 rfl dL_law_368 ?_
  refine g_iload C 4 rfl dL_law_369 ?_
  refine g_iconst C 1 (by decide) dL_law_371 ?_
  refine g_iadd C dL_law_372 ?_
  obtain ⟨hb, h⟩ := h
  refine g_sld C hX hb dL_law_373 ?_
  refine g_aload_n C 0 rfl dL_law_374 ?_
  refine g_iload C 4 rfl dL_law_375 ?_
  refine g_iconst C 2 (by decide) dL_law_377 ?_
  refine g_iadd C dL_law_378 ?_
  obtain ⟨hb, h⟩ := h
  refine g_sld C hX hb dL_law_379 ?_
  refine g_aload_n C 0 rfl dL_law_380 ?_
  refine g_iload C 4 rfl dL_law_381 ?_
  refine g_iconst C 3 (by decide) dL_law_383 ?_
  refine g_iadd C dL_law_384 ?_
  obtain ⟨hb, h⟩ := h
  refine g_sld C hX hb dL_law_385 ?_
  refine g_callVl C (As := [.int (xs (x4 + 1).toNatClampNeg), .int (xs (x4 + 2).toNatClampNeg), .int (xs (x4 + 3).toNatClampNeg)]) (rest := []) (m_X1_young h) (lw_V q683 q684 q685 q78 q686) (ci := 0) (qi := 0) rfl rfl ⟨rfl, rfl⟩ ⟨Nat.le_of_ble_eq_true rfl, Nat.le_of_ble_eq_true rfl⟩ 3 rfl (by decide +kernel) rfl (Nat.le_of_ble_eq_true rfl) ⟨hi, by show 4 * (c) ≤ 5501098; omega⟩ dL_law_386 ?_
  rintro v1 _ ⟨w2, L3, rfl, L4, e5, h⟩
  subst e5
  refine g_aload_n C 2 rfl dL_law_389 ?_
  refine g_aload_n C 0 rfl dL_law_390 ?_
  refine g_iload C 4 rfl dL_law_391 ?_
  refine g_iconst C 1 (by decide) dL_law_393 ?_
  refine g_iadd C dL_law_394 ?_
  obtain ⟨hb, h⟩ := h
  refine g_sld C hX hb dL_law_395 ?_
  refine g_aload_n C 0 rfl dL_law_396 ?_
  refine g_iload C 4 rfl dL_law_397 ?_
  refine g_iconst C 2 (by decide) dL_law_399 ?_
  refine g_iadd C dL_law_400 ?_
  obtain ⟨hb, h⟩ := h
  refine g_sld C hX hb dL_law_401 ?_
  refine g_aload_n C 0 rfl dL_law_402 ?_
  refine g_iload C 4 rfl dL_law_403 ?_
  refine g_iconst C 3 (by decide) dL_law_405 ?_
  refine g_iadd C dL_law_406 ?_
  obtain ⟨hb, h⟩ := h
  refine g_sld C hX hb dL_law_407 ?_
  refine g_swap ?_
  refine g_callVl C (As := [.int (xs (x4 + 1).toNatClampNeg), .int (xs (x4 + 2).toNatClampNeg), .int (xs (x4 + 3).toNatClampNeg)]) (rest := [.long v1]) (m_X5_young h) (lw_V q1300 q1301 q1302 q84 q1303) (ci := 12) (qi := 0) rfl rfl ⟨rfl, rfl⟩ ⟨Nat.le_of_ble_eq_true rfl, Nat.le_of_ble_eq_true rfl⟩ 3 rfl (by decide +kernel) rfl (Nat.le_of_ble_eq_true rfl) ⟨hi, by show 4 * (c) ≤ 5501098; omega⟩ dL_law_408 ?_
  rintro v6 _ ⟨u7, L8, rfl, e9, h⟩
  subst e9
  refine g_swap' ?_
  refine g_lif_eq C 1461 dL_law_411 dL_law_412 (by decide) (fun hc => ?_) (fun hc => ?_)
  · replace h := h.1 hc
    refine g_iinc C 4 (x4 + 7) (lt := [(4, .int (x4 + 7)), (0, .ref b), (1, .ref (xa K 0)), (2, .ref (ma K 0)), (3, .ref qo)]) rfl rfl dL_law_1461 (by decide) rfl ?_
    refine g_goto C 23 dL_law_1464 (by decide) ?_
    refine g_sub [1, 2, 3, 4, 0] rfl ?_
    exact hr c (x4 + 7) w2 u7 L4 hi h
  · replace h := h.2 hc
    refine g_iconst C 0 (by decide) dL_law_415 ?_
    exact h.elim
def B_law_c7 (K : gK) (n : Nat) (xs : Nat → Int32) (qo N : Nat) (r : Nat → Int32 → Wd → Wd → va_W → Prop) (c : Nat) (x4 : Int32) (w v : Wd) (L : va_W) : Prop :=
  vp_in (x4 + 1) n ∧ vp_in (x4 + 2) n ∧ vp_in (x4 + 3) n ∧ vp_in (x4 + 4) n ∧ vp_in (x4 + 5) n ∧ B_X1_worthIt N (xs (x4 + 1).toNatClampNeg) (xs (x4 + 2).toNatClampNeg) (xs (x4 + 3).toNatClampNeg) (xs (x4 + 4).toNatClampNeg) (xs (x4 + 5).toNatClampNeg) (fun (v1 : Int32) (w2 : Wd) (L3 : va_W) => ∃ L4 : va_W, L3 = mL K v ++ L4 ∧
    vp_in (x4 + 1) n ∧ vp_in (x4 + 2) n ∧ vp_in (x4 + 3) n ∧ vp_in (x4 + 4) n ∧ vp_in (x4 + 5) n ∧ B_X5_worthIt N (xs (x4 + 1).toNatClampNeg) (xs (x4 + 2).toNatClampNeg) (xs (x4 + 3).toNatClampNeg) (xs (x4 + 4).toNatClampNeg) (xs (x4 + 5).toNatClampNeg) (fun (v6 : Int32) (u7 : Wd) (L8 : va_W) => L8 = xL K w2 ++ L4 ∧
    (v1 = v6 →
    r c (x4 + 7) w2 u7 L4) ∧
  (¬ v1 = v6 →
    False)) v (xL K w2 ++ L4)) w (mL K v ++ L)
set_option maxHeartbeats 4000000 in
theorem k_law_c7 {Γ : gT} {K : gK} {N b n qo : Nat} {xs : Nat → Int32} (C : gC Γ K "OneBearsLaw" cL_law 7 room_1) (hX : gScr Γ b n xs) (hl0 : Γ.l.stackTraces = false) (done : ∀ (c : Nat) (V : va_W) (pc : Nat) (ls : List (Nat × Value)), c ≤ 1200128 → decode cL_law pc = .ok (.ireturn, 1) → gJ Γ K c (4 * c) V pc ls [.int 1]) {r : Nat → Int32 → Wd → Wd → va_W → Prop} (hr : ∀ (c : Nat) (x4 : Int32) (w v : Wd) (L : va_W), c ≤ 1200128 → r c x4 w v L → gJ Γ K c (4 * c) (xL K w ++ (mL K v ++ L)) 23 [(0, .ref b), (1, .ref (xa K 0)), (2, .ref (ma K 0)), (3, .ref qo), (4, .int x4)] []) (c : Nat) (x4 : Int32) (w v : Wd) (L : va_W) (hi : c ≤ 1200128) (h : B_law_c7 K n xs qo N r c x4 w v L) : gJ Γ K c (4 * c) (xL K w ++ (mL K v ++ L)) 417 [(0, .ref b), (1, .ref (xa K 0)), (2, .ref (ma K 0)), (3, .ref qo), (4, .int x4)] [] := by
  unfold B_law_c7 at h
  refine g_aload_n C 1 rfl dL_law_417 ?_
  refine g_aload_n C 0 rfl dL_law_418 ?_
  refine g_iload C 4 rfl dL_law_419 ?_
  refine g_iconst C 1 (by decide) dL_law_421 ?_
  refine g_iadd C dL_law_422 ?_
  obtain ⟨hb, h⟩ := h
  refine g_sld C hX hb dL_law_423 ?_
  refine g_aload_n C 0 rfl dL_law_424 ?_
  refine g_iload C 4 rfl dL_law_425 ?_
  refine g_iconst C 2 (by decide) dL_law_427 ?_
  refine g_iadd C dL_law_428 ?_
  obtain ⟨hb, h⟩ := h
  refine g_sld C hX hb dL_law_429 ?_
  refine g_aload_n C 0 rfl dL_law_430 ?_
  refine g_iload C 4 rfl dL_law_431 ?_
  refine g_iconst C 3 (by decide) dL_law_433 ?_
  refine g_iadd C dL_law_434 ?_
  obtain ⟨hb, h⟩ := h
  refine g_sld C hX hb dL_law_435 ?_
  refine g_aload_n C 0 rfl dL_law_436 ?_
  refine g_iload C 4 rfl dL_law_437 ?_
  refine g_iconst C 4 (by decide) dL_law_439 ?_
  refine g_iadd C dL_law_440 ?_
  obtain ⟨hb, h⟩ := h
  refine g_sld C hX hb dL_law_441 ?_
  refine g_aload_n C 0 rfl dL_law_442 ?_
  refine g_iload C 4 rfl dL_law_443 ?_
  refine g_iconst C 5 (by decide) dL_law_445 ?_
  refine g_iadd C dL_law_446 ?_
  obtain ⟨hb, h⟩ := h
  refine g_sld C hX hb dL_law_447 ?_
  refine g_callVi C (As := [.int (xs (x4 + 1).toNatClampNeg), .int (xs (x4 + 2).toNatClampNeg), .int (xs (x4 + 3).toNatClampNeg), .int (xs (x4 + 4).toNatClampNeg), .int (xs (x4 + 5).toNatClampNeg)]) (rest := []) (m_X1_worthIt h) (lw_V q691 q692 q693 q78 q694) (ci := 0) (qi := 0) rfl rfl ⟨rfl, rfl⟩ ⟨Nat.le_of_ble_eq_true rfl, Nat.le_of_ble_eq_true rfl⟩ 5 rfl (by decide +kernel) rfl (Nat.le_of_ble_eq_true rfl) ⟨hi, by show 4 * (c) ≤ 5501098; omega⟩ dL_law_448 ?_
  rintro v1 _ ⟨w2, L3, rfl, L4, e5, h⟩
  subst e5
  refine g_aload_n C 2 rfl dL_law_451 ?_
  refine g_aload_n C 0 rfl dL_law_452 ?_
  refine g_iload C 4 rfl dL_law_453 ?_
  refine g_iconst C 1 (by decide) dL_law_455 ?_
  refine g_iadd C dL_law_456 ?_
  obtain ⟨hb, h⟩ := h
  refine g_sld C hX hb dL_law_457 ?_
  refine g_aload_n C 0 rfl dL_law_458 ?_
  refine g_iload C 4 rfl dL_law_459 ?_
  refine g_iconst C 2 (by decide) dL_law_461 ?_
  refine g_iadd C dL_law_462 ?_
  obtain ⟨hb, h⟩ := h
  refine g_sld C hX hb dL_law_463 ?_
  refine g_aload_n C 0 rfl dL_law_464 ?_
  refine g_iload C 4 rfl dL_law_465 ?_
  refine g_iconst C 3 (by decide) dL_law_467 ?_
  refine g_iadd C dL_law_468 ?_
  obtain ⟨hb, h⟩ := h
  refine g_sld C hX hb dL_law_469 ?_
  refine g_aload_n C 0 rfl dL_law_470 ?_
  refine g_iload C 4 rfl dL_law_471 ?_
  refine g_iconst C 4 (by decide) dL_law_473 ?_
  refine g_iadd C dL_law_474 ?_
  obtain ⟨hb, h⟩ := h
  refine g_sld C hX hb dL_law_475 ?_
  refine g_aload_n C 0 rfl dL_law_476 ?_
  refine g_iload C 4 rfl dL_law_477 ?_
  refine g_iconst C 5 (by decide) dL_law_479 ?_
  refine g_iadd C dL_law_480 ?_
  obtain ⟨hb, h⟩ := h
  refine g_sld C hX hb dL_law_481 ?_
  refine g_swap ?_
  refine g_callVi C (As := [.int (xs (x4 + 1).toNatClampNeg), .int (xs (x4 + 2).toNatClampNeg), .int (xs (x4 + 3).toNatClampNeg), .int (xs (x4 + 4).toNatClampNeg), .int (xs (x4 + 5).toNatClampNeg)]) (rest := [.int v1]) (m_X5_worthIt h) (lw_V q1308 q1309 q1310 q84 q1311) (ci := 12) (qi := 0) rfl rfl ⟨rfl, rfl⟩ ⟨Nat.le_of_ble_eq_true rfl, Nat.le_of_ble_eq_true rfl⟩ 5 rfl (by decide +kernel) rfl (Nat.le_of_ble_eq_true rfl) ⟨hi, by show 4 * (c) ≤ 5501098; omega⟩ dL_law_482 ?_
  rintro v6 _ ⟨u7, L8, rfl, e9, h⟩
  subst e9
  refine g_swap' ?_
  refine g_icmp_eq C 1461 dL_law_485 (by decide) (fun hc => ?_) (fun hc => ?_)
  · replace h := h.1 hc
    refine g_iinc C 4 (x4 + 7) (lt := [(4, .int (x4 + 7)), (0, .ref b), (1, .ref (xa K 0)), (2, .ref (ma K 0)), (3, .ref qo)]) rfl rfl dL_law_1461 (by decide) rfl ?_
    refine g_goto C 23 dL_law_1464 (by decide) ?_
    refine g_sub [1, 2, 3, 4, 0] rfl ?_
    exact hr c (x4 + 7) w2 u7 L4 hi h
  · replace h := h.2 hc
    refine g_iconst C 0 (by decide) dL_law_488 ?_
    exact h.elim
def B_law_c8 (K : gK) (n : Nat) (xs : Nat → Int32) (qo N : Nat) (r : Nat → Int32 → Wd → Wd → va_W → Prop) (c : Nat) (x4 : Int32) (w v : Wd) (L : va_W) : Prop :=
  vp_in (x4 + 1) n ∧ vp_in (x4 + 2) n ∧ B_X1_reign N (xs (x4 + 1).toNatClampNeg) (xs (x4 + 2).toNatClampNeg) (fun (v1 : Int32) (w2 : Wd) (L3 : va_W) => ∃ L4 : va_W, L3 = mL K v ++ L4 ∧
    vp_in (x4 + 1) n ∧ vp_in (x4 + 2) n ∧ B_X5_reign N (xs (x4 + 1).toNatClampNeg) (xs (x4 + 2).toNatClampNeg) (fun (v6 : Int32) (u7 : Wd) (L8 : va_W) => L8 = xL K w2 ++ L4 ∧
    (v1 = v6 →
    r c (x4 + 7) w2 u7 L4) ∧
  (¬ v1 = v6 →
    False)) v (xL K w2 ++ L4)) w (mL K v ++ L)
set_option maxHeartbeats 4000000 in
theorem k_law_c8 {Γ : gT} {K : gK} {N b n qo : Nat} {xs : Nat → Int32} (C : gC Γ K "OneBearsLaw" cL_law 7 room_1) (hX : gScr Γ b n xs) (hl0 : Γ.l.stackTraces = false) (done : ∀ (c : Nat) (V : va_W) (pc : Nat) (ls : List (Nat × Value)), c ≤ 1200128 → decode cL_law pc = .ok (.ireturn, 1) → gJ Γ K c (4 * c) V pc ls [.int 1]) {r : Nat → Int32 → Wd → Wd → va_W → Prop} (hr : ∀ (c : Nat) (x4 : Int32) (w v : Wd) (L : va_W), c ≤ 1200128 → r c x4 w v L → gJ Γ K c (4 * c) (xL K w ++ (mL K v ++ L)) 23 [(0, .ref b), (1, .ref (xa K 0)), (2, .ref (ma K 0)), (3, .ref qo), (4, .int x4)] []) (c : Nat) (x4 : Int32) (w v : Wd) (L : va_W) (hi : c ≤ 1200128) (h : B_law_c8 K n xs qo N r c x4 w v L) : gJ Γ K c (4 * c) (xL K w ++ (mL K v ++ L)) 490 [(0, .ref b), (1, .ref (xa K 0)), (2, .ref (ma K 0)), (3, .ref qo), (4, .int x4)] [] := by
  unfold B_law_c8 at h
  refine g_aload_n C 1 rfl dL_law_490 ?_
  refine g_aload_n C 0 rfl dL_law_491 ?_
  refine g_iload C 4 rfl dL_law_492 ?_
  refine g_iconst C 1 (by decide) dL_law_494 ?_
  refine g_iadd C dL_law_495 ?_
  obtain ⟨hb, h⟩ := h
  refine g_sld C hX hb dL_law_496 ?_
  refine g_aload_n C 0 rfl dL_law_497 ?_
  refine g_iload C 4 rfl dL_law_498 ?_
  refine g_iconst C 2 (by decide) dL_law_500 ?_
  refine g_iadd C dL_law_501 ?_
  obtain ⟨hb, h⟩ := h
  refine g_sld C hX hb dL_law_502 ?_
  refine g_callVi C (As := [.int (xs (x4 + 1).toNatClampNeg), .int (xs (x4 + 2).toNatClampNeg)]) (rest := []) (m_X1_reign h) (lw_V q695 q696 q697 q78 q698) (ci := 0) (qi := 0) rfl rfl ⟨rfl, rfl⟩ ⟨Nat.le_of_ble_eq_true rfl, Nat.le_of_ble_eq_true rfl⟩ 2 rfl (by decide +kernel) rfl (Nat.le_of_ble_eq_true rfl) ⟨hi, by show 4 * (c) ≤ 5501098; omega⟩ dL_law_503 ?_
  rintro v1 _ ⟨w2, L3, rfl, L4, e5, h⟩
  subst e5
  refine g_aload_n C 2 rfl dL_law_506 ?_
  refine g_aload_n C 0 rfl dL_law_507 ?_
  refine g_iload C 4 rfl dL_law_508 ?_
  refine g_iconst C 1 (by decide) dL_law_510 ?_
  refine g_iadd C dL_law_511 ?_
  obtain ⟨hb, h⟩ := h
  refine g_sld C hX hb dL_law_512 ?_
  refine g_aload_n C 0 rfl dL_law_513 ?_
  refine g_iload C 4 rfl dL_law_514 ?_
  refine g_iconst C 2 (by decide) dL_law_516 ?_
  refine g_iadd C dL_law_517 ?_
  obtain ⟨hb, h⟩ := h
  refine g_sld C hX hb dL_law_518 ?_
  refine g_swap ?_
  refine g_callVi C (As := [.int (xs (x4 + 1).toNatClampNeg), .int (xs (x4 + 2).toNatClampNeg)]) (rest := [.int v1]) (m_X5_reign h) (lw_V q1312 q1313 q1314 q84 q1315) (ci := 12) (qi := 0) rfl rfl ⟨rfl, rfl⟩ ⟨Nat.le_of_ble_eq_true rfl, Nat.le_of_ble_eq_true rfl⟩ 2 rfl (by decide +kernel) rfl (Nat.le_of_ble_eq_true rfl) ⟨hi, by show 4 * (c) ≤ 5501098; omega⟩ dL_law_519 ?_
  rintro v6 _ ⟨u7, L8, rfl, e9, h⟩
  subst e9
  refine g_swap' ?_
  refine g_icmp_eq C 1461 dL_law_522 (by decide) (fun hc => ?_) (fun hc => ?_)
  · replace h := h.1 hc
    refine g_iinc C 4 (x4 + 7) (lt := [(4, .int (x4 + 7)), (0, .ref b), (1, .ref (xa K 0)), (2, .ref (ma K 0)), (3, .ref qo)]) rfl rfl dL_law_1461 (by decide) rfl ?_
    refine g_goto C 23 dL_law_1464 (by decide) ?_
    refine g_sub [1, 2, 3, 4, 0] rfl ?_
    exact hr c (x4 + 7) w2 u7 L4 hi h
  · replace h := h.2 hc
    refine g_iconst C 0 (by decide) dL_law_525 ?_
    exact h.elim
def B_law_c9 (K : gK) (n : Nat) (xs : Nat → Int32) (qo N : Nat) (r : Nat → Int32 → Wd → Wd → va_W → Prop) (c : Nat) (x4 : Int32) (w v : Wd) (L : va_W) : Prop :=
  vp_in (x4 + 1) n ∧ vp_in (x4 + 2) n ∧ B_X1_set N (xs (x4 + 1).toNatClampNeg) (xs (x4 + 2).toNatClampNeg) (fun (v1 : Int32) (w2 : Wd) (L3 : va_W) => ∃ L4 : va_W, L3 = mL K v ++ L4 ∧
    vp_in (x4 + 1) n ∧ vp_in (x4 + 2) n ∧ B_X5_set N (xs (x4 + 1).toNatClampNeg) (xs (x4 + 2).toNatClampNeg) (fun (v6 : Int32) (u7 : Wd) (L8 : va_W) => L8 = xL K w2 ++ L4 ∧
    (v1 = v6 →
    r c (x4 + 7) w2 u7 L4) ∧
  (¬ v1 = v6 →
    False)) v (xL K w2 ++ L4)) w (mL K v ++ L)
set_option maxHeartbeats 4000000 in
theorem k_law_c9 {Γ : gT} {K : gK} {N b n qo : Nat} {xs : Nat → Int32} (C : gC Γ K "OneBearsLaw" cL_law 7 room_1) (hX : gScr Γ b n xs) (hl0 : Γ.l.stackTraces = false) (done : ∀ (c : Nat) (V : va_W) (pc : Nat) (ls : List (Nat × Value)), c ≤ 1200128 → decode cL_law pc = .ok (.ireturn, 1) → gJ Γ K c (4 * c) V pc ls [.int 1]) {r : Nat → Int32 → Wd → Wd → va_W → Prop} (hr : ∀ (c : Nat) (x4 : Int32) (w v : Wd) (L : va_W), c ≤ 1200128 → r c x4 w v L → gJ Γ K c (4 * c) (xL K w ++ (mL K v ++ L)) 23 [(0, .ref b), (1, .ref (xa K 0)), (2, .ref (ma K 0)), (3, .ref qo), (4, .int x4)] []) (c : Nat) (x4 : Int32) (w v : Wd) (L : va_W) (hi : c ≤ 1200128) (h : B_law_c9 K n xs qo N r c x4 w v L) : gJ Γ K c (4 * c) (xL K w ++ (mL K v ++ L)) 527 [(0, .ref b), (1, .ref (xa K 0)), (2, .ref (ma K 0)), (3, .ref qo), (4, .int x4)] [] := by
  unfold B_law_c9 at h
  refine g_aload_n C 1 rfl dL_law_527 ?_
  refine g_aload_n C 0 rfl dL_law_528 ?_
  refine g_iload C 4 rfl dL_law_529 ?_
  refine g_iconst C 1 (by decide) dL_law_531 ?_
  refine g_iadd C dL_law_532 ?_
  obtain ⟨hb, h⟩ := h
  refine g_sld C hX hb dL_law_533 ?_
  refine g_aload_n C 0 rfl dL_law_534 ?_
  refine g_iload C 4 rfl dL_law_535 ?_
  refine g_iconst C 2 (by decide) dL_law_537 ?_
  refine g_iadd C dL_law_538 ?_
  obtain ⟨hb, h⟩ := h
  refine g_sld C hX hb dL_law_539 ?_
  refine g_callVi C (As := [.int (xs (x4 + 1).toNatClampNeg), .int (xs (x4 + 2).toNatClampNeg)]) (rest := []) (m_X1_set h) (lw_V q699 q700 q701 q78 q702) (ci := 0) (qi := 0) rfl rfl ⟨rfl, rfl⟩ ⟨Nat.le_of_ble_eq_true rfl, Nat.le_of_ble_eq_true rfl⟩ 2 rfl (by decide +kernel) rfl (Nat.le_of_ble_eq_true rfl) ⟨hi, by show 4 * (c) ≤ 5501098; omega⟩ dL_law_540 ?_
  rintro v1 _ ⟨w2, L3, rfl, L4, e5, h⟩
  subst e5
  refine g_aload_n C 2 rfl dL_law_543 ?_
  refine g_aload_n C 0 rfl dL_law_544 ?_
  refine g_iload C 4 rfl dL_law_545 ?_
  refine g_iconst C 1 (by decide) dL_law_547 ?_
  refine g_iadd C dL_law_548 ?_
  obtain ⟨hb, h⟩ := h
  refine g_sld C hX hb dL_law_549 ?_
  refine g_aload_n C 0 rfl dL_law_550 ?_
  refine g_iload C 4 rfl dL_law_551 ?_
  refine g_iconst C 2 (by decide) dL_law_553 ?_
  refine g_iadd C dL_law_554 ?_
  obtain ⟨hb, h⟩ := h
  refine g_sld C hX hb dL_law_555 ?_
  refine g_swap ?_
  refine g_callVi C (As := [.int (xs (x4 + 1).toNatClampNeg), .int (xs (x4 + 2).toNatClampNeg)]) (rest := [.int v1]) (m_X5_set h) (lw_V q1316 q1317 q1318 q84 q1319) (ci := 12) (qi := 0) rfl rfl ⟨rfl, rfl⟩ ⟨Nat.le_of_ble_eq_true rfl, Nat.le_of_ble_eq_true rfl⟩ 2 rfl (by decide +kernel) rfl (Nat.le_of_ble_eq_true rfl) ⟨hi, by show 4 * (c) ≤ 5501098; omega⟩ dL_law_556 ?_
  rintro v6 _ ⟨u7, L8, rfl, e9, h⟩
  subst e9
  refine g_swap' ?_
  refine g_icmp_eq C 1461 dL_law_559 (by decide) (fun hc => ?_) (fun hc => ?_)
  · replace h := h.1 hc
    refine g_iinc C 4 (x4 + 7) (lt := [(4, .int (x4 + 7)), (0, .ref b), (1, .ref (xa K 0)), (2, .ref (ma K 0)), (3, .ref qo)]) rfl rfl dL_law_1461 (by decide) rfl ?_
    refine g_goto C 23 dL_law_1464 (by decide) ?_
    refine g_sub [1, 2, 3, 4, 0] rfl ?_
    exact hr c (x4 + 7) w2 u7 L4 hi h
  · replace h := h.2 hc
    refine g_iconst C 0 (by decide) dL_law_562 ?_
    exact h.elim
def B_law_c10 (K : gK) (n : Nat) (xs : Nat → Int32) (qo N : Nat) (r : Nat → Int32 → Wd → Wd → va_W → Prop) (c : Nat) (x4 : Int32) (w v : Wd) (L : va_W) : Prop :=
  vp_in (x4 + 1) n ∧ B_X1_told N (xs (x4 + 1).toNatClampNeg) (fun (v1 : Int32) (w2 : Wd) (L3 : va_W) => ∃ L4 : va_W, L3 = mL K v ++ L4 ∧
    vp_in (x4 + 1) n ∧ B_X5_told N (xs (x4 + 1).toNatClampNeg) (fun (v6 : Int32) (u7 : Wd) (L8 : va_W) => L8 = xL K w2 ++ L4 ∧
    (v1 = v6 →
    r c (x4 + 7) w2 u7 L4) ∧
  (¬ v1 = v6 →
    False)) v (xL K w2 ++ L4)) w (mL K v ++ L)
set_option maxHeartbeats 4000000 in
theorem k_law_c10 {Γ : gT} {K : gK} {N b n qo : Nat} {xs : Nat → Int32} (C : gC Γ K "OneBearsLaw" cL_law 7 room_1) (hX : gScr Γ b n xs) (hl0 : Γ.l.stackTraces = false) (done : ∀ (c : Nat) (V : va_W) (pc : Nat) (ls : List (Nat × Value)), c ≤ 1200128 → decode cL_law pc = .ok (.ireturn, 1) → gJ Γ K c (4 * c) V pc ls [.int 1]) {r : Nat → Int32 → Wd → Wd → va_W → Prop} (hr : ∀ (c : Nat) (x4 : Int32) (w v : Wd) (L : va_W), c ≤ 1200128 → r c x4 w v L → gJ Γ K c (4 * c) (xL K w ++ (mL K v ++ L)) 23 [(0, .ref b), (1, .ref (xa K 0)), (2, .ref (ma K 0)), (3, .ref qo), (4, .int x4)] []) (c : Nat) (x4 : Int32) (w v : Wd) (L : va_W) (hi : c ≤ 1200128) (h : B_law_c10 K n xs qo N r c x4 w v L) : gJ Γ K c (4 * c) (xL K w ++ (mL K v ++ L)) 564 [(0, .ref b), (1, .ref (xa K 0)), (2, .ref (ma K 0)), (3, .ref qo), (4, .int x4)] [] := by
  unfold B_law_c10 at h
  refine g_aload_n C 1 rfl dL_law_564 ?_
  refine g_aload_n C 0 rfl dL_law_565 ?_
  refine g_iload C 4 rfl dL_law_566 ?_
  refine g_iconst C 1 (by decide) dL_law_568 ?_
  refine g_iadd C dL_law_569 ?_
  obtain ⟨hb, h⟩ := h
  refine g_sld C hX hb dL_law_570 ?_
  refine g_callVi C (As := [.int (xs (x4 + 1).toNatClampNeg)]) (rest := []) (m_X1_told h) (lw_V q709 q710 q711 q78 q712) (ci := 0) (qi := 0) rfl rfl ⟨rfl, rfl⟩ ⟨Nat.le_of_ble_eq_true rfl, Nat.le_of_ble_eq_true rfl⟩ 1 rfl (by decide +kernel) rfl (Nat.le_of_ble_eq_true rfl) ⟨hi, by show 4 * (c) ≤ 5501098; omega⟩ dL_law_571 ?_
  rintro v1 _ ⟨w2, L3, rfl, L4, e5, h⟩
  subst e5
  refine g_aload_n C 2 rfl dL_law_574 ?_
  refine g_aload_n C 0 rfl dL_law_575 ?_
  refine g_iload C 4 rfl dL_law_576 ?_
  refine g_iconst C 1 (by decide) dL_law_578 ?_
  refine g_iadd C dL_law_579 ?_
  obtain ⟨hb, h⟩ := h
  refine g_sld C hX hb dL_law_580 ?_
  refine g_swap ?_
  refine g_callVi C (As := [.int (xs (x4 + 1).toNatClampNeg)]) (rest := [.int v1]) (m_X5_told h) (lw_V q1326 q1327 q1328 q84 q1329) (ci := 12) (qi := 0) rfl rfl ⟨rfl, rfl⟩ ⟨Nat.le_of_ble_eq_true rfl, Nat.le_of_ble_eq_true rfl⟩ 1 rfl (by decide +kernel) rfl (Nat.le_of_ble_eq_true rfl) ⟨hi, by show 4 * (c) ≤ 5501098; omega⟩ dL_law_581 ?_
  rintro v6 _ ⟨u7, L8, rfl, e9, h⟩
  subst e9
  refine g_swap' ?_
  refine g_icmp_eq C 1461 dL_law_584 (by decide) (fun hc => ?_) (fun hc => ?_)
  · replace h := h.1 hc
    refine g_iinc C 4 (x4 + 7) (lt := [(4, .int (x4 + 7)), (0, .ref b), (1, .ref (xa K 0)), (2, .ref (ma K 0)), (3, .ref qo)]) rfl rfl dL_law_1461 (by decide) rfl ?_
    refine g_goto C 23 dL_law_1464 (by decide) ?_
    refine g_sub [1, 2, 3, 4, 0] rfl ?_
    exact hr c (x4 + 7) w2 u7 L4 hi h
  · replace h := h.2 hc
    refine g_iconst C 0 (by decide) dL_law_587 ?_
    exact h.elim
def B_law_c11 (K : gK) (n : Nat) (xs : Nat → Int32) (qo N : Nat) (r : Nat → Int32 → Wd → Wd → va_W → Prop) (c : Nat) (x4 : Int32) (w v : Wd) (L : va_W) : Prop :=
  vp_in (x4 + 1) n ∧ vp_in (x4 + 2) n ∧ vp_in (x4 + 3) n ∧ B_X1_rain N (xs (x4 + 1).toNatClampNeg) (xs (x4 + 2).toNatClampNeg) (xs (x4 + 3).toNatClampNeg) (fun (v1 : Int32) (w2 : Wd) (L3 : va_W) => ∃ L4 : va_W, L3 = mL K v ++ L4 ∧
    vp_in (x4 + 1) n ∧ vp_in (x4 + 2) n ∧ vp_in (x4 + 3) n ∧ B_X5_rain N (xs (x4 + 1).toNatClampNeg) (xs (x4 + 2).toNatClampNeg) (xs (x4 + 3).toNatClampNeg) (fun (v6 : Int32) (u7 : Wd) (L8 : va_W) => L8 = xL K w2 ++ L4 ∧
    (v1 = v6 →
    r c (x4 + 7) w2 u7 L4) ∧
  (¬ v1 = v6 →
    False)) v (xL K w2 ++ L4)) w (mL K v ++ L)
set_option maxHeartbeats 4000000 in
theorem k_law_c11 {Γ : gT} {K : gK} {N b n qo : Nat} {xs : Nat → Int32} (C : gC Γ K "OneBearsLaw" cL_law 7 room_1) (hX : gScr Γ b n xs) (hl0 : Γ.l.stackTraces = false) (done : ∀ (c : Nat) (V : va_W) (pc : Nat) (ls : List (Nat × Value)), c ≤ 1200128 → decode cL_law pc = .ok (.ireturn, 1) → gJ Γ K c (4 * c) V pc ls [.int 1]) {r : Nat → Int32 → Wd → Wd → va_W → Prop} (hr : ∀ (c : Nat) (x4 : Int32) (w v : Wd) (L : va_W), c ≤ 1200128 → r c x4 w v L → gJ Γ K c (4 * c) (xL K w ++ (mL K v ++ L)) 23 [(0, .ref b), (1, .ref (xa K 0)), (2, .ref (ma K 0)), (3, .ref qo), (4, .int x4)] []) (c : Nat) (x4 : Int32) (w v : Wd) (L : va_W) (hi : c ≤ 1200128) (h : B_law_c11 K n xs qo N r c x4 w v L) : gJ Γ K c (4 * c) (xL K w ++ (mL K v ++ L)) 589 [(0, .ref b), (1, .ref (xa K 0)), (2, .ref (ma K 0)), (3, .ref qo), (4, .int x4)] [] := by
  unfold B_law_c11 at h
  refine g_aload_n C 1 rfl dL_law_589 ?_
  refine g_aload_n C 0 rfl dL_law_590 ?_
  refine g_iload C 4 rfl dL_law_591 ?_
  refine g_iconst C 1 (by decide) dL_law_593 ?_
  refine g_iadd C dL_law_594 ?_
  obtain ⟨hb, h⟩ := h
  refine g_sld C hX hb dL_law_595 ?_
  refine g_aload_n C 0 rfl dL_law_596 ?_
  refine g_iload C 4 rfl dL_law_597 ?_
  refine g_iconst C 2 (by decide) dL_law_599 ?_
  refine g_iadd C dL_law_600 ?_
  obtain ⟨hb, h⟩ := h
  refine g_sld C hX hb dL_law_601 ?_
  refine g_aload_n C 0 rfl dL_law_602 ?_
  refine g_iload C 4 rfl dL_law_603 ?_
  refine g_iconst C 3 (by decide) dL_law_605 ?_
  refine g_iadd C dL_law_606 ?_
  obtain ⟨hb, h⟩ := h
  refine g_sld C hX hb dL_law_607 ?_
  refine g_callVi C (As := [.int (xs (x4 + 1).toNatClampNeg), .int (xs (x4 + 2).toNatClampNeg), .int (xs (x4 + 3).toNatClampNeg)]) (rest := []) (m_X1_rain h) (lw_V q713 q714 q715 q78 q716) (ci := 0) (qi := 0) rfl rfl ⟨rfl, rfl⟩ ⟨Nat.le_of_ble_eq_true rfl, Nat.le_of_ble_eq_true rfl⟩ 3 rfl (by decide +kernel) rfl (Nat.le_of_ble_eq_true rfl) ⟨hi, by show 4 * (c) ≤ 5501098; omega⟩ dL_law_608 ?_
  rintro v1 _ ⟨w2, L3, rfl, L4, e5, h⟩
  subst e5
  refine g_aload_n C 2 rfl dL_law_611 ?_
  refine g_aload_n C 0 rfl dL_law_612 ?_
  refine g_iload C 4 rfl dL_law_613 ?_
  refine g_iconst C 1 (by decide) dL_law_615 ?_
  refine g_iadd C dL_law_616 ?_
  obtain ⟨hb, h⟩ := h
  refine g_sld C hX hb dL_law_617 ?_
  refine g_aload_n C 0 rfl dL_law_618 ?_
  refine g_iload C 4 rfl dL_law_619 ?_
  refine g_iconst C 2 (by decide) dL_law_621 ?_
  refine g_iadd C dL_law_622 ?_
  obtain ⟨hb, h⟩ := h
  refine g_sld C hX hb dL_law_623 ?_
  refine g_aload_n C 0 rfl dL_law_624 ?_
  refine g_iload C 4 rfl dL_law_625 ?_
  refine g_iconst C 3 (by decide) dL_law_627 ?_
  refine g_iadd C dL_law_628 ?_
  obtain ⟨hb, h⟩ := h
  refine g_sld C hX hb dL_law_629 ?_
  refine g_swap ?_
  refine g_callVi C (As := [.int (xs (x4 + 1).toNatClampNeg), .int (xs (x4 + 2).toNatClampNeg), .int (xs (x4 + 3).toNatClampNeg)]) (rest := [.int v1]) (m_X5_rain h) (lw_V q1330 q1331 q1332 q84 q1333) (ci := 12) (qi := 0) rfl rfl ⟨rfl, rfl⟩ ⟨Nat.le_of_ble_eq_true rfl, Nat.le_of_ble_eq_true rfl⟩ 3 rfl (by decide +kernel) rfl (Nat.le_of_ble_eq_true rfl) ⟨hi, by show 4 * (c) ≤ 5501098; omega⟩ dL_law_630 ?_
  rintro v6 _ ⟨u7, L8, rfl, e9, h⟩
  subst e9
  refine g_swap' ?_
  refine g_icmp_eq C 1461 dL_law_633 (by decide) (fun hc => ?_) (fun hc => ?_)
  · replace h := h.1 hc
    refine g_iinc C 4 (x4 + 7) (lt := [(4, .int (x4 + 7)), (0, .ref b), (1, .ref (xa K 0)), (2, .ref (ma K 0)), (3, .ref qo)]) rfl rfl dL_law_1461 (by decide) rfl ?_
    refine g_goto C 23 dL_law_1464 (by decide) ?_
    refine g_sub [1, 2, 3, 4, 0] rfl ?_
    exact hr c (x4 + 7) w2 u7 L4 hi h
  · replace h := h.2 hc
    refine g_iconst C 0 (by decide) dL_law_636 ?_
    exact h.elim
def B_law_c12 (K : gK) (n : Nat) (xs : Nat → Int32) (qo N : Nat) (r : Nat → Int32 → Wd → Wd → va_W → Prop) (c : Nat) (x4 : Int32) (w v : Wd) (L : va_W) : Prop :=
  vp_in (x4 + 1) n ∧ vp_in (x4 + 2) n ∧ vp_in (x4 + 3) n ∧ ∃ m6 : Nat, c + m6 ≤ 1200128 ∧ B_X0_worth K N (xs (x4 + 1).toNatClampNeg) (xs (x4 + 2).toNatClampNeg) (xs (x4 + 3).toNatClampNeg) qo m6 (fun (v1 : Int32) (w2 : Wd) (L3 : va_W) => ∃ L4 : va_W, L3 = mL K v ++ L4 ∧
    vp_in (x4 + 1) n ∧ vp_in (x4 + 2) n ∧ vp_in (x4 + 3) n ∧ B_X5_worth N (xs (x4 + 1).toNatClampNeg) (xs (x4 + 2).toNatClampNeg) (xs (x4 + 3).toNatClampNeg) (fun (v7 : Int32) (u8 : Wd) (L9 : va_W) => L9 = xL K w2 ++ L4 ∧
    B_X5_thrown N (fun (v11 : Int32) (u12 : Wd) (L13 : va_W) => L13 = xL K w2 ++ L4 ∧
    (v11 = v1 →
    (v1 = 0 →
      ∃ (k15 n15 : Nat) (f15 : Nat → Int64), L4[k15]? = some (qo, .inl (K.2.1 1, n15, .inr (.inl f15))) ∧ vp_in 0 n15 ∧ ((f15 (0 : Int32).toNatClampNeg) = v7.toInt64 →
        r (c + m6) (x4 + 7) w2 u12 L4) ∧
      (¬ (f15 (0 : Int32).toNatClampNeg) = v7.toInt64 →
        False)) ∧
    (¬ v1 = 0 →
      r (c + m6) (x4 + 7) w2 u12 L4)) ∧
  (¬ v11 = v1 →
    False)) u8 (xL K w2 ++ L4)) v (xL K w2 ++ L4)) w (mL K v ++ L)
set_option maxHeartbeats 4000000 in
theorem k_law_c12 {Γ : gT} {K : gK} {N b n qo : Nat} {xs : Nat → Int32} (C : gC Γ K "OneBearsLaw" cL_law 7 room_1) (hX : gScr Γ b n xs) (hl0 : Γ.l.stackTraces = false) (done : ∀ (c : Nat) (V : va_W) (pc : Nat) (ls : List (Nat × Value)), c ≤ 1200128 → decode cL_law pc = .ok (.ireturn, 1) → gJ Γ K c (4 * c) V pc ls [.int 1]) {r : Nat → Int32 → Wd → Wd → va_W → Prop} (hr : ∀ (c : Nat) (x4 : Int32) (w v : Wd) (L : va_W), c ≤ 1200128 → r c x4 w v L → gJ Γ K c (4 * c) (xL K w ++ (mL K v ++ L)) 23 [(0, .ref b), (1, .ref (xa K 0)), (2, .ref (ma K 0)), (3, .ref qo), (4, .int x4)] []) (c : Nat) (x4 : Int32) (w v : Wd) (L : va_W) (hi : c ≤ 1200128) (h : B_law_c12 K n xs qo N r c x4 w v L) : gJ Γ K c (4 * c) (xL K w ++ (mL K v ++ L)) 638 [(0, .ref b), (1, .ref (xa K 0)), (2, .ref (ma K 0)), (3, .ref qo), (4, .int x4)] [] := by
  unfold B_law_c12 at h
  refine g_aload_n C 1 rfl dL_law_638 ?_
  refine g_aload_n C 0 rfl dL_law_639 ?_
  refine g_iload C 4 rfl dL_law_640 ?_
  refine g_iconst C 1 (by decide) dL_law_642 ?_
  refine g_iadd C dL_law_643 ?_
  obtain ⟨hb, h⟩ := h
  refine g_sld C hX hb dL_law_644 ?_
  refine g_aload_n C 0 rfl dL_law_645 ?_
  refine g_iload C 4 rfl dL_law_646 ?_
  refine g_iconst C 2 (by decide) dL_law_648 ?_
  refine g_iadd C dL_law_649 ?_
  obtain ⟨hb, h⟩ := h
  refine g_sld C hX hb dL_law_650 ?_
  refine g_aload_n C 0 rfl dL_law_651 ?_
  refine g_iload C 4 rfl dL_law_652 ?_
  refine g_iconst C 3 (by decide) dL_law_654 ?_
  refine g_iadd C dL_law_655 ?_
  obtain ⟨hb, h⟩ := h
  refine g_sld C hX hb dL_law_656 ?_
  refine g_aload_n C 3 rfl dL_law_657 ?_
  obtain ⟨m6, hm6, h⟩ := h
  refine g_callHS C (As := [.ref (xa K 0), .int (xs (x4 + 1).toNatClampNeg), .int (xs (x4 + 2).toNatClampNeg), .int (xs (x4 + 3).toNatClampNeg), .ref qo]) (rest := []) (m_X0_worth hl0 h) (lw_SW q958 q959 q77 q960) ⟨rfl, rfl⟩ ⟨Nat.le_of_ble_eq_true rfl, Nat.le_of_ble_eq_true rfl⟩ 5 rfl (by decide +kernel) rfl (Nat.le_of_ble_eq_true rfl) ⟨hm6, by show 4 * (c) + 4 * m6 ≤ 5501098; omega⟩ dL_law_658 ?_
  rintro v1 _ ⟨w2, L3, rfl, L4, e5, h⟩
  subst e5
  refine g_istore C (lt := [(5, .int v1), (0, .ref b), (1, .ref (xa K 0)), (2, .ref (ma K 0)), (3, .ref qo), (4, .int x4)]) dL_law_661 (by decide) rfl ?_
  refine g_aload_n C 3 rfl dL_law_663 ?_
  refine g_aload_n C 1 rfl dL_law_664 ?_
  refine g_iload C 5 rfl dL_law_665 ?_
  refine g_iconst C 1 (by decide) dL_law_667 ?_
  refine g_iadd C dL_law_668 ?_
  obtain ⟨hb, h⟩ := h
  refine g_sld C hX hb dL_law_669 ?_
  refine g_aload_n C 1 rfl dL_law_670 ?_
  refine g_iload C 5 rfl dL_law_671 ?_
  refine g_iconst C 2 (by decide) dL_law_673 ?_
  refine g_iadd C dL_law_674 ?_
  obtain ⟨hb, h⟩ := h
  refine g_sld C hX hb dL_law_675 ?_
  refine g_aload_n C 1 rfl dL_law_676 ?_
  refine g_iload C 5 rfl dL_law_677 ?_
  refine g_iconst C 3 (by decide) dL_law_679 ?_
  refine g_iadd C dL_law_680 ?_
  obtain ⟨hb, h⟩ := h
  refine g_sld C hX hb dL_law_681 ?_
  refine g_swap ?_
  refine g_callVi C (As := [.int (xs (x4 + 1).toNatClampNeg), .int (xs (x4 + 2).toNatClampNeg), .int (xs (x4 + 3).toNatClampNeg)]) (rest := []) (m_X5_worth h) (lw_V q1334 q1335 q1336 q84 q1337) (ci := 12) (qi := 0) rfl rfl ⟨rfl, rfl⟩ ⟨Nat.le_of_ble_eq_true rfl, Nat.le_of_ble_eq_true rfl⟩ 3 rfl (by decide +kernel) rfl (Nat.le_of_ble_eq_true rfl) ⟨hm6, by show 4 * (c + m6) ≤ 5501098; omega⟩ dL_law_682 ?_
  rintro v7 _ ⟨u8, L9, rfl, e10, h⟩
  subst e10
  refine g_swap' ?_
  refine g_istore C (lt := [(6, .int v7), (5, .int v1), (0, .ref b), (1, .ref (xa K 0)), (2, .ref (ma K 0)), (3, .ref qo), (4, .int x4)]) dL_law_685 (by decide) rfl ?_
  refine g_aload_n C 4 rfl dL_law_687 ?_
  refine g_swap ?_
  refine g_callVi C (As := []) (rest := []) (m_X5_thrown h) (lw_V q1168 q1169 q1170 q84 q1171) (ci := 12) (qi := 0) rfl rfl ⟨rfl, rfl⟩ ⟨Nat.le_of_ble_eq_true rfl, Nat.le_of_ble_eq_true rfl⟩ 0 rfl (by decide +kernel) rfl (Nat.le_of_ble_eq_true rfl) ⟨hm6, by show 4 * (c + m6) ≤ 5501098; omega⟩ dL_law_688 ?_
  rintro v11 _ ⟨u12, L13, rfl, e14, h⟩
  subst e14
  refine g_swap' ?_
  refine g_iload C 1 rfl dL_law_691 ?_
  refine g_icmp_eq C 698 dL_law_693 (by decide) (fun hc => ?_) (fun hc => ?_)
  · replace h := h.1 hc
    refine g_iload C 1 rfl dL_law_698 ?_
    refine g_if_ne C 715 dL_law_700 (by decide) (fun hc => ?_) (fun hc => ?_)
    · replace h := h.2 hc
      refine g_goto C 1461 dL_law_715 (by decide) ?_
      refine g_iinc C 6 (x4 + 7) (lt := [(4, .int (x4 + 7)), (6, .int v7), (5, .int v1), (0, .ref b), (1, .ref (xa K 0)), (2, .ref (ma K 0)), (3, .ref qo)]) rfl rfl dL_law_1461 (by decide) rfl ?_
      refine g_goto C 23 dL_law_1464 (by decide) ?_
      refine g_sub [3, 4, 5, 6, 0] rfl ?_
      exact hr (c + m6) (x4 + 7) w2 u12 L4 hm6 h
    · replace h := h.1 hc
      refine g_aload_n C 5 rfl dL_law_703 ?_
      refine g_iconst C 0 (by decide) dL_law_704 ?_
      obtain ⟨k15, n15, f15, e15, hb, h⟩ := h
      refine g_lald C (31 + (27 + k15)) (x_at (m_at e15)) hb dL_law_705 ?_
      refine g_iload C 0 rfl dL_law_706 ?_
      refine g_i2l C dL_law_708 ?_
      refine g_lif_eq C 715 dL_law_709 dL_law_710 (by decide) (fun hc => ?_) (fun hc => ?_)
      · replace h := h.1 hc
        refine g_goto C 1461 dL_law_715 (by decide) ?_
        refine g_iinc C 6 (x4 + 7) (lt := [(4, .int (x4 + 7)), (6, .int v7), (5, .int v1), (0, .ref b), (1, .ref (xa K 0)), (2, .ref (ma K 0)), (3, .ref qo)]) rfl rfl dL_law_1461 (by decide) rfl ?_
        refine g_goto C 23 dL_law_1464 (by decide) ?_
        refine g_sub [3, 4, 5, 6, 0] rfl ?_
        exact hr (c + m6) (x4 + 7) w2 u12 L4 hm6 h
      · replace h := h.2 hc
        refine g_iconst C 0 (by decide) dL_law_713 ?_
        exact h.elim
  · replace h := h.2 hc
    refine g_iconst C 0 (by decide) dL_law_696 ?_
    exact h.elim
def B_law_c13 (K : gK) (n : Nat) (xs : Nat → Int32) (qo N : Nat) (r : Nat → Int32 → Wd → Wd → va_W → Prop) (c : Nat) (x4 : Int32) (w v : Wd) (L : va_W) : Prop :=
  vp_in (x4 + 1) n ∧ vp_in (x4 + 2) n ∧ vp_in (x4 + 3) n ∧ vp_in (x4 + 4) n ∧ vp_in (x4 + 5) n ∧ vp_in (x4 + 6) n ∧ B_X1_run N (xs (x4 + 1).toNatClampNeg) ((((xs (x4 + 2).toNatClampNeg).toInt64) <<< ((32 : Int32).toInt64 &&& 63)) ||| (((xs (x4 + 3).toNatClampNeg).toInt64) &&& 4294967295)) (xs (x4 + 4).toNatClampNeg) (xs (x4 + 5).toNatClampNeg) (xs (x4 + 6).toNatClampNeg) (fun (v1 : Int32) (w2 : Wd) (L3 : va_W) => ∃ L4 : va_W, L3 = mL K v ++ L4 ∧
    vp_in (x4 + 1) n ∧ vp_in (x4 + 2) n ∧ vp_in (x4 + 3) n ∧ vp_in (x4 + 4) n ∧ vp_in (x4 + 5) n ∧ vp_in (x4 + 6) n ∧ B_X5_run N (xs (x4 + 1).toNatClampNeg) ((((xs (x4 + 2).toNatClampNeg).toInt64) <<< ((32 : Int32).toInt64 &&& 63)) ||| (((xs (x4 + 3).toNatClampNeg).toInt64) &&& 4294967295)) (xs (x4 + 4).toNatClampNeg) (xs (x4 + 5).toNatClampNeg) (xs (x4 + 6).toNatClampNeg) (fun (v6 : Int32) (u7 : Wd) (L8 : va_W) => L8 = xL K w2 ++ L4 ∧
    (v1 = v6 →
    r c (x4 + 7) w2 u7 L4) ∧
  (¬ v1 = v6 →
    False)) v (xL K w2 ++ L4)) w (mL K v ++ L)
set_option maxHeartbeats 4000000 in
theorem k_law_c13 {Γ : gT} {K : gK} {N b n qo : Nat} {xs : Nat → Int32} (C : gC Γ K "OneBearsLaw" cL_law 7 room_1) (hX : gScr Γ b n xs) (hl0 : Γ.l.stackTraces = false) (done : ∀ (c : Nat) (V : va_W) (pc : Nat) (ls : List (Nat × Value)), c ≤ 1200128 → decode cL_law pc = .ok (.ireturn, 1) → gJ Γ K c (4 * c) V pc ls [.int 1]) {r : Nat → Int32 → Wd → Wd → va_W → Prop} (hr : ∀ (c : Nat) (x4 : Int32) (w v : Wd) (L : va_W), c ≤ 1200128 → r c x4 w v L → gJ Γ K c (4 * c) (xL K w ++ (mL K v ++ L)) 23 [(0, .ref b), (1, .ref (xa K 0)), (2, .ref (ma K 0)), (3, .ref qo), (4, .int x4)] []) (c : Nat) (x4 : Int32) (w v : Wd) (L : va_W) (hi : c ≤ 1200128) (h : B_law_c13 K n xs qo N r c x4 w v L) : gJ Γ K c (4 * c) (xL K w ++ (mL K v ++ L)) 718 [(0, .ref b), (1, .ref (xa K 0)), (2, .ref (ma K 0)), (3, .ref qo), (4, .int x4)] [] := by
  unfold B_law_c13 at h
  refine g_aload_n C 1 rfl dL_law_718 ?_
  refine g_aload_n C 0 rfl dL_law_719 ?_
  refine g_iload C 4 rfl dL_law_720 ?_
  refine g_iconst C 1 (by decide) dL_law_722 ?_
  refine g_iadd C dL_law_723 ?_
  obtain ⟨hb, h⟩ := h
  refine g_sld C hX hb dL_law_724 ?_
  refine g_aload_n C 0 rfl dL_law_725 ?_
  refine g_iload C 4 rfl dL_law_726 ?_
  refine g_iconst C 2 (by decide) dL_law_728 ?_
  refine g_iadd C dL_law_729 ?_
  obtain ⟨hb, h⟩ := h
  refine g_sld C hX hb dL_law_730 ?_
  refine g_i2l C dL_law_731 ?_
  refine g_bipush C 32 (by decide) dL_law_732 ?_
  refine g_lshl C dL_law_734 ?_
  refine g_aload_n C 0 rfl dL_law_735 ?_
  refine g_iload C 4 rfl dL_law_736 ?_
  refine g_iconst C 3 (by decide) dL_law_738 ?_
  refine g_iadd C dL_law_739 ?_
  obtain ⟨hb, h⟩ := h
  refine g_sld C hX hb dL_law_740 ?_
  refine g_i2l C dL_law_741 ?_
  refine g_ldc2 C (v := 4294967295) q1485 dL_law_742 ?_
  refine g_land C dL_law_745 ?_
  refine g_lor C dL_law_746 ?_
  refine g_aload_n C 0 rfl dL_law_747 ?_
  refine g_iload C 4 rfl dL_law_748 ?_
  refine g_iconst C 4 (by decide) dL_law_750 ?_
  refine g_iadd C dL_law_751 ?_
  obtain ⟨hb, h⟩ := h
  refine g_sld C hX hb dL_law_752 ?_
  refine g_aload_n C 0 rfl dL_law_753 ?_
  refine g_iload C 4 rfl dL_law_754 ?_
  refine g_iconst C 5 (by decide) dL_law_756 ?_
  refine g_iadd C dL_law_757 ?_
  obtain ⟨hb, h⟩ := h
  refine g_sld C hX hb dL_law_758 ?_
  refine g_aload_n C 0 rfl dL_law_759 ?_
  refine g_iload C 4 rfl dL_law_760 ?_
  refine g_bipush C 6 (by decide) dL_law_762 ?_
  refine g_iadd C dL_law_764 ?_
  obtain ⟨hb, h⟩ := h
  refine g_sld C hX hb dL_law_765 ?_
  refine g_callVi C (As := [.int (xs (x4 + 1).toNatClampNeg), .long ((((xs (x4 + 2).toNatClampNeg).toInt64) <<< ((32 : Int32).toInt64 &&& 63)) ||| (((xs (x4 + 3).toNatClampNeg).toInt64) &&& 4294967295)), .int (xs (x4 + 4).toNatClampNeg), .int (xs (x4 + 5).toNatClampNeg), .int (xs (x4 + 6).toNatClampNeg)]) (rest := []) (m_X1_run h) (lw_V q717 q718 q719 q78 q720) (ci := 0) (qi := 0) rfl rfl ⟨rfl, rfl⟩ ⟨Nat.le_of_ble_eq_true rfl, Nat.le_of_ble_eq_true rfl⟩ 5 rfl (by decide +kernel) rfl (Nat.le_of_ble_eq_true rfl) ⟨hi, by show 4 * (c) ≤ 5501098; omega⟩ dL_law_766 ?_
  rintro v1 _ ⟨w2, L3, rfl, L4, e5, h⟩
  subst e5
  refine g_aload_n C 2 rfl dL_law_769 ?_
  refine g_aload_n C 0 rfl dL_law_770 ?_
  refine g_iload C 4 rfl dL_law_771 ?_
  refine g_iconst C 1 (by decide) dL_law_773 ?_
  refine g_iadd C dL_law_774 ?_
  obtain ⟨hb, h⟩ := h
  refine g_sld C hX hb dL_law_775 ?_
  refine g_aload_n C 0 rfl dL_law_776 ?_
  refine g_iload C 4 rfl dL_law_777 ?_
  refine g_iconst C 2 (by decide) dL_law_779 ?_
  refine g_iadd C dL_law_780 ?_
  obtain ⟨hb, h⟩ := h
  refine g_sld C hX hb dL_law_781 ?_
  refine g_i2l C dL_law_782 ?_
  refine g_bipush C 32 (by decide) dL_law_783 ?_
  refine g_lshl C dL_law_785 ?_
  refine g_aload_n C 0 rfl dL_law_786 ?_
  refine g_iload C 4 rfl dL_law_787 ?_
  refine g_iconst C 3 (by decide) dL_law_789 ?_
  refine g_iadd C dL_law_790 ?_
  obtain ⟨hb, h⟩ := h
  refine g_sld C hX hb dL_law_791 ?_
  refine g_i2l C dL_law_792 ?_
  refine g_ldc2 C (v := 4294967295) q1485 dL_law_793 ?_
  refine g_land C dL_law_796 ?_
  refine g_lor C dL_law_797 ?_
  refine g_aload_n C 0 rfl dL_law_798 ?_
  refine g_iload C 4 rfl dL_law_799 ?_
  refine g_iconst C 4 (by decide) dL_law_801 ?_
  refine g_iadd C dL_law_802 ?_
  obtain ⟨hb, h⟩ := h
  refine g_sld C hX hb dL_law_803 ?_
  refine g_aload_n C 0 rfl dL_law_804 ?_
  refine g_iload C 4 rfl dL_law_805 ?_
  refine g_iconst C 5 (by decide) dL_law_807 ?_
  refine g_iadd C dL_law_808 ?_
  obtain ⟨hb, h⟩ := h
  refine g_sld C hX hb dL_law_809 ?_
  refine g_aload_n C 0 rfl dL_law_810 ?_
  refine g_iload C 4 rfl dL_law_811 ?_
  refine g_bipush C 6 (by decide) dL_law_813 ?_
  refine g_iadd C dL_law_815 ?_
  obtain ⟨hb, h⟩ := h
  refine g_sld C hX hb dL_law_816 ?_
  refine g_swap ?_
  refine g_callVi C (As := [.int (xs (x4 + 1).toNatClampNeg), .long ((((xs (x4 + 2).toNatClampNeg).toInt64) <<< ((32 : Int32).toInt64 &&& 63)) ||| (((xs (x4 + 3).toNatClampNeg).toInt64) &&& 4294967295)), .int (xs (x4 + 4).toNatClampNeg), .int (xs (x4 + 5).toNatClampNeg), .int (xs (x4 + 6).toNatClampNeg)]) (rest := [.int v1]) (m_X5_run h) (lw_V q1366 q1367 q1368 q84 q1369) (ci := 12) (qi := 0) rfl rfl ⟨rfl, rfl⟩ ⟨Nat.le_of_ble_eq_true rfl, Nat.le_of_ble_eq_true rfl⟩ 5 rfl (by decide +kernel) rfl (Nat.le_of_ble_eq_true rfl) ⟨hi, by show 4 * (c) ≤ 5501098; omega⟩ dL_law_817 ?_
  rintro v6 _ ⟨u7, L8, rfl, e9, h⟩
  subst e9
  refine g_swap' ?_
  refine g_icmp_eq C 1461 dL_law_820 (by decide) (fun hc => ?_) (fun hc => ?_)
  · replace h := h.1 hc
    refine g_iinc C 4 (x4 + 7) (lt := [(4, .int (x4 + 7)), (0, .ref b), (1, .ref (xa K 0)), (2, .ref (ma K 0)), (3, .ref qo)]) rfl rfl dL_law_1461 (by decide) rfl ?_
    refine g_goto C 23 dL_law_1464 (by decide) ?_
    refine g_sub [1, 2, 3, 4, 0] rfl ?_
    exact hr c (x4 + 7) w2 u7 L4 hi h
  · replace h := h.2 hc
    refine g_iconst C 0 (by decide) dL_law_823 ?_
    exact h.elim
def B_law_c14 (K : gK) (n : Nat) (xs : Nat → Int32) (qo N : Nat) (r : Nat → Int32 → Wd → Wd → va_W → Prop) (c : Nat) (x4 : Int32) (w v : Wd) (L : va_W) : Prop :=
  vp_in (x4 + 1) n ∧ vp_in (x4 + 2) n ∧ vp_in (x4 + 3) n ∧ vp_in (x4 + 4) n ∧ vp_in (x4 + 5) n ∧ B_X1_all N (xs (x4 + 1).toNatClampNeg) ((((xs (x4 + 2).toNatClampNeg).toInt64) <<< ((32 : Int32).toInt64 &&& 63)) ||| (((xs (x4 + 3).toNatClampNeg).toInt64) &&& 4294967295)) (xs (x4 + 4).toNatClampNeg) (xs (x4 + 5).toNatClampNeg) (fun (v1 : Int32) (w2 : Wd) (L3 : va_W) => ∃ L4 : va_W, L3 = mL K v ++ L4 ∧
    vp_in (x4 + 1) n ∧ vp_in (x4 + 2) n ∧ vp_in (x4 + 3) n ∧ vp_in (x4 + 4) n ∧ vp_in (x4 + 5) n ∧ B_X5_all N (xs (x4 + 1).toNatClampNeg) ((((xs (x4 + 2).toNatClampNeg).toInt64) <<< ((32 : Int32).toInt64 &&& 63)) ||| (((xs (x4 + 3).toNatClampNeg).toInt64) &&& 4294967295)) (xs (x4 + 4).toNatClampNeg) (xs (x4 + 5).toNatClampNeg) (fun (v6 : Int32) (u7 : Wd) (L8 : va_W) => L8 = xL K w2 ++ L4 ∧
    (v1 = v6 →
    r c (x4 + 7) w2 u7 L4) ∧
  (¬ v1 = v6 →
    False)) v (xL K w2 ++ L4)) w (mL K v ++ L)
set_option maxHeartbeats 4000000 in
theorem k_law_c14 {Γ : gT} {K : gK} {N b n qo : Nat} {xs : Nat → Int32} (C : gC Γ K "OneBearsLaw" cL_law 7 room_1) (hX : gScr Γ b n xs) (hl0 : Γ.l.stackTraces = false) (done : ∀ (c : Nat) (V : va_W) (pc : Nat) (ls : List (Nat × Value)), c ≤ 1200128 → decode cL_law pc = .ok (.ireturn, 1) → gJ Γ K c (4 * c) V pc ls [.int 1]) {r : Nat → Int32 → Wd → Wd → va_W → Prop} (hr : ∀ (c : Nat) (x4 : Int32) (w v : Wd) (L : va_W), c ≤ 1200128 → r c x4 w v L → gJ Γ K c (4 * c) (xL K w ++ (mL K v ++ L)) 23 [(0, .ref b), (1, .ref (xa K 0)), (2, .ref (ma K 0)), (3, .ref qo), (4, .int x4)] []) (c : Nat) (x4 : Int32) (w v : Wd) (L : va_W) (hi : c ≤ 1200128) (h : B_law_c14 K n xs qo N r c x4 w v L) : gJ Γ K c (4 * c) (xL K w ++ (mL K v ++ L)) 825 [(0, .ref b), (1, .ref (xa K 0)), (2, .ref (ma K 0)), (3, .ref qo), (4, .int x4)] [] := by
  unfold B_law_c14 at h
  refine g_aload_n C 1 rfl dL_law_825 ?_
  refine g_aload_n C 0 rfl dL_law_826 ?_
  refine g_iload C 4 rfl dL_law_827 ?_
  refine g_iconst C 1 (by decide) dL_law_829 ?_
  refine g_iadd C dL_law_830 ?_
  obtain ⟨hb, h⟩ := h
  refine g_sld C hX hb dL_law_831 ?_
  refine g_aload_n C 0 rfl dL_law_832 ?_
  refine g_iload C 4 rfl dL_law_833 ?_
  refine g_iconst C 2 (by decide) dL_law_835 ?_
  refine g_iadd C dL_law_836 ?_
  obtain ⟨hb, h⟩ := h
  refine g_sld C hX hb dL_law_837 ?_
  refine g_i2l C dL_law_838 ?_
  refine g_bipush C 32 (by decide) dL_law_839 ?_
  refine g_lshl C dL_law_841 ?_
  refine g_aload_n C 0 rfl dL_law_842 ?_
  refine g_iload C 4 rfl dL_law_843 ?_
  refine g_iconst C 3 (by decide) dL_law_845 ?_
  refine g_iadd C dL_law_846 ?_
  obtain ⟨hb, h⟩ := h
  refine g_sld C hX hb dL_law_847 ?_
  refine g_i2l C dL_law_848 ?_
  refine g_ldc2 C (v := 4294967295) q1485 dL_law_849 ?_
  refine g_land C dL_law_852 ?_
  refine g_lor C dL_law_853 ?_
  refine g_aload_n C 0 rfl dL_law_854 ?_
  refine g_iload C 4 rfl dL_law_855 ?_
  refine g_iconst C 4 (by decide) dL_law_857 ?_
  refine g_iadd C dL_law_858 ?_
  obtain ⟨hb, h⟩ := h
  refine g_sld C hX hb dL_law_859 ?_
  refine g_aload_n C 0 rfl dL_law_860 ?_
  refine g_iload C 4 rfl dL_law_861 ?_
  refine g_iconst C 5 (by decide) dL_law_863 ?_
  refine g_iadd C dL_law_864 ?_
  obtain ⟨hb, h⟩ := h
  refine g_sld C hX hb dL_law_865 ?_
  refine g_callVi C (As := [.int (xs (x4 + 1).toNatClampNeg), .long ((((xs (x4 + 2).toNatClampNeg).toInt64) <<< ((32 : Int32).toInt64 &&& 63)) ||| (((xs (x4 + 3).toNatClampNeg).toInt64) &&& 4294967295)), .int (xs (x4 + 4).toNatClampNeg), .int (xs (x4 + 5).toNatClampNeg)]) (rest := []) (m_X1_all h) (lw_V q878 q879 q880 q78 q881) (ci := 0) (qi := 0) rfl rfl ⟨rfl, rfl⟩ ⟨Nat.le_of_ble_eq_true rfl, Nat.le_of_ble_eq_true rfl⟩ 4 rfl (by decide +kernel) rfl (Nat.le_of_ble_eq_true rfl) ⟨hi, by show 4 * (c) ≤ 5501098; omega⟩ dL_law_866 ?_
  rintro v1 _ ⟨w2, L3, rfl, L4, e5, h⟩
  subst e5
  refine g_aload_n C 2 rfl dL_law_869 ?_
  refine g_aload_n C 0 rfl dL_law_870 ?_
  refine g_iload C 4 rfl dL_law_871 ?_
  refine g_iconst C 1 (by decide) dL_law_873 ?_
  refine g_iadd C dL_law_874 ?_
  obtain ⟨hb, h⟩ := h
  refine g_sld C hX hb dL_law_875 ?_
  refine g_aload_n C 0 rfl dL_law_876 ?_
  refine g_iload C 4 rfl dL_law_877 ?_
  refine g_iconst C 2 (by decide) dL_law_879 ?_
  refine g_iadd C dL_law_880 ?_
  obtain ⟨hb, h⟩ := h
  refine g_sld C hX hb dL_law_881 ?_
  refine g_i2l C dL_law_882 ?_
  refine g_bipush C 32 (by decide) dL_law_883 ?_
  refine g_lshl C dL_law_885 ?_
  refine g_aload_n C 0 rfl dL_law_886 ?_
  refine g_iload C 4 rfl dL_law_887 ?_
  refine g_iconst C 3 (by decide) dL_law_889 ?_
  refine g_iadd C dL_law_890 ?_
  obtain ⟨hb, h⟩ := h
  refine g_sld C hX hb dL_law_891 ?_
  refine g_i2l C dL_law_892 ?_
  refine g_ldc2 C (v := 4294967295) q1485 dL_law_893 ?_
  refine g_land C dL_law_896 ?_
  refine g_lor C dL_law_897 ?_
  refine g_aload_n C 0 rfl dL_law_898 ?_
  refine g_iload C 4 rfl dL_law_899 ?_
  refine g_iconst C 4 (by decide) dL_law_901 ?_
  refine g_iadd C dL_law_902 ?_
  obtain ⟨hb, h⟩ := h
  refine g_sld C hX hb dL_law_903 ?_
  refine g_aload_n C 0 rfl dL_law_904 ?_
  refine g_iload C 4 rfl dL_law_905 ?_
  refine g_iconst C 5 (by decide) dL_law_907 ?_
  refine g_iadd C dL_law_908 ?_
  obtain ⟨hb, h⟩ := h
  refine g_sld C hX hb dL_law_909 ?_
  refine g_swap ?_
  refine g_callVi C (As := [.int (xs (x4 + 1).toNatClampNeg), .long ((((xs (x4 + 2).toNatClampNeg).toInt64) <<< ((32 : Int32).toInt64 &&& 63)) ||| (((xs (x4 + 3).toNatClampNeg).toInt64) &&& 4294967295)), .int (xs (x4 + 4).toNatClampNeg), .int (xs (x4 + 5).toNatClampNeg)]) (rest := [.int v1]) (m_X5_all h) (lw_V q1411 q1412 q1413 q84 q1414) (ci := 12) (qi := 0) rfl rfl ⟨rfl, rfl⟩ ⟨Nat.le_of_ble_eq_true rfl, Nat.le_of_ble_eq_true rfl⟩ 4 rfl (by decide +kernel) rfl (Nat.le_of_ble_eq_true rfl) ⟨hi, by show 4 * (c) ≤ 5501098; omega⟩ dL_law_910 ?_
  rintro v6 _ ⟨u7, L8, rfl, e9, h⟩
  subst e9
  refine g_swap' ?_
  refine g_icmp_eq C 1461 dL_law_913 (by decide) (fun hc => ?_) (fun hc => ?_)
  · replace h := h.1 hc
    refine g_iinc C 4 (x4 + 7) (lt := [(4, .int (x4 + 7)), (0, .ref b), (1, .ref (xa K 0)), (2, .ref (ma K 0)), (3, .ref qo)]) rfl rfl dL_law_1461 (by decide) rfl ?_
    refine g_goto C 23 dL_law_1464 (by decide) ?_
    refine g_sub [1, 2, 3, 4, 0] rfl ?_
    exact hr c (x4 + 7) w2 u7 L4 hi h
  · replace h := h.2 hc
    refine g_iconst C 0 (by decide) dL_law_916 ?_
    exact h.elim
def B_law_c15 (K : gK) (n : Nat) (xs : Nat → Int32) (qo N : Nat) (r : Nat → Int32 → Wd → Wd → va_W → Prop) (c : Nat) (x4 : Int32) (w v : Wd) (L : va_W) : Prop :=
  vp_in (x4 + 1) n ∧ B_X1_find N (xs (x4 + 1).toNatClampNeg) (fun (v1 : Int64) (w2 : Wd) (L3 : va_W) => ∃ L4 : va_W, L3 = mL K v ++ L4 ∧
    vp_in (x4 + 1) n ∧ B_X5_find N (xs (x4 + 1).toNatClampNeg) (fun (v6 : Int64) (u7 : Wd) (L8 : va_W) => L8 = xL K w2 ++ L4 ∧
    (v1 = v6 →
    r c (x4 + 7) w2 u7 L4) ∧
  (¬ v1 = v6 →
    False)) v (xL K w2 ++ L4)) w (mL K v ++ L)
set_option maxHeartbeats 4000000 in
theorem k_law_c15 {Γ : gT} {K : gK} {N b n qo : Nat} {xs : Nat → Int32} (C : gC Γ K "OneBearsLaw" cL_law 7 room_1) (hX : gScr Γ b n xs) (hl0 : Γ.l.stackTraces = false) (done : ∀ (c : Nat) (V : va_W) (pc : Nat) (ls : List (Nat × Value)), c ≤ 1200128 → decode cL_law pc = .ok (.ireturn, 1) → gJ Γ K c (4 * c) V pc ls [.int 1]) {r : Nat → Int32 → Wd → Wd → va_W → Prop} (hr : ∀ (c : Nat) (x4 : Int32) (w v : Wd) (L : va_W), c ≤ 1200128 → r c x4 w v L → gJ Γ K c (4 * c) (xL K w ++ (mL K v ++ L)) 23 [(0, .ref b), (1, .ref (xa K 0)), (2, .ref (ma K 0)), (3, .ref qo), (4, .int x4)] []) (c : Nat) (x4 : Int32) (w v : Wd) (L : va_W) (hi : c ≤ 1200128) (h : B_law_c15 K n xs qo N r c x4 w v L) : gJ Γ K c (4 * c) (xL K w ++ (mL K v ++ L)) 918 [(0, .ref b), (1, .ref (xa K 0)), (2, .ref (ma K 0)), (3, .ref qo), (4, .int x4)] [] := by
  unfold B_law_c15 at h
  refine g_aload_n C 1 rfl dL_law_918 ?_
  refine g_aload_n C 0 rfl dL_law_919 ?_
  refine g_iload C 4 rfl dL_law_920 ?_
  refine g_iconst C 1 (by decide) dL_law_922 ?_
  refine g_iadd C dL_law_923 ?_
  obtain ⟨hb, h⟩ := h
  refine g_sld C hX hb dL_law_924 ?_
  refine g_callVl C (As := [.int (xs (x4 + 1).toNatClampNeg)]) (rest := []) (m_X1_find h) (lw_V q888 q889 q890 q78 q891) (ci := 0) (qi := 0) rfl rfl ⟨rfl, rfl⟩ ⟨Nat.le_of_ble_eq_true rfl, Nat.le_of_ble_eq_true rfl⟩ 1 rfl (by decide +kernel) rfl (Nat.le_of_ble_eq_true rfl) ⟨hi, by show 4 * (c) ≤ 5501098; omega⟩ dL_law_925 ?_
  rintro v1 _ ⟨w2, L3, rfl, L4, e5, h⟩
  subst e5
  refine g_aload_n C 2 rfl dL_law_928 ?_
  refine g_aload_n C 0 rfl dL_law_929 ?_
  refine g_iload C 4 rfl dL_law_930 ?_
  refine g_iconst C 1 (by decide) dL_law_932 ?_
  refine g_iadd C dL_law_933 ?_
  obtain ⟨hb, h⟩ := h
  refine g_sld C hX hb dL_law_934 ?_
  refine g_swap ?_
  refine g_callVl C (As := [.int (xs (x4 + 1).toNatClampNeg)]) (rest := [.long v1]) (m_X5_find h) (lw_V q1419 q1420 q1421 q84 q1422) (ci := 12) (qi := 0) rfl rfl ⟨rfl, rfl⟩ ⟨Nat.le_of_ble_eq_true rfl, Nat.le_of_ble_eq_true rfl⟩ 1 rfl (by decide +kernel) rfl (Nat.le_of_ble_eq_true rfl) ⟨hi, by show 4 * (c) ≤ 5501098; omega⟩ dL_law_935 ?_
  rintro v6 _ ⟨u7, L8, rfl, e9, h⟩
  subst e9
  refine g_swap' ?_
  refine g_lif_eq C 1461 dL_law_938 dL_law_939 (by decide) (fun hc => ?_) (fun hc => ?_)
  · replace h := h.1 hc
    refine g_iinc C 4 (x4 + 7) (lt := [(4, .int (x4 + 7)), (0, .ref b), (1, .ref (xa K 0)), (2, .ref (ma K 0)), (3, .ref qo)]) rfl rfl dL_law_1461 (by decide) rfl ?_
    refine g_goto C 23 dL_law_1464 (by decide) ?_
    refine g_sub [1, 2, 3, 4, 0] rfl ?_
    exact hr c (x4 + 7) w2 u7 L4 hi h
  · replace h := h.2 hc
    refine g_iconst C 0 (by decide) dL_law_942 ?_
    exact h.elim
def B_law_c16 (K : gK) (n : Nat) (xs : Nat → Int32) (qo N : Nat) (r : Nat → Int32 → Wd → Wd → va_W → Prop) (c : Nat) (x4 : Int32) (w v : Wd) (L : va_W) : Prop :=
  vp_in (x4 + 1) n ∧ vp_in (x4 + 2) n ∧ B_X1_many N (xs (x4 + 1).toNatClampNeg) (xs (x4 + 2).toNatClampNeg) (fun (v1 : Int32) (w2 : Wd) (L3 : va_W) => ∃ L4 : va_W, L3 = mL K v ++ L4 ∧
    vp_in (x4 + 1) n ∧ vp_in (x4 + 2) n ∧ B_X5_many N (xs (x4 + 1).toNatClampNeg) (xs (x4 + 2).toNatClampNeg) (fun (v6 : Int32) (u7 : Wd) (L8 : va_W) => L8 = xL K w2 ++ L4 ∧
    (v1 = v6 →
    r c (x4 + 7) w2 u7 L4) ∧
  (¬ v1 = v6 →
    False)) v (xL K w2 ++ L4)) w (mL K v ++ L)
set_option maxHeartbeats 4000000 in
theorem k_law_c16 {Γ : gT} {K : gK} {N b n qo : Nat} {xs : Nat → Int32} (C : gC Γ K "OneBearsLaw" cL_law 7 room_1) (hX : gScr Γ b n xs) (hl0 : Γ.l.stackTraces = false) (done : ∀ (c : Nat) (V : va_W) (pc : Nat) (ls : List (Nat × Value)), c ≤ 1200128 → decode cL_law pc = .ok (.ireturn, 1) → gJ Γ K c (4 * c) V pc ls [.int 1]) {r : Nat → Int32 → Wd → Wd → va_W → Prop} (hr : ∀ (c : Nat) (x4 : Int32) (w v : Wd) (L : va_W), c ≤ 1200128 → r c x4 w v L → gJ Γ K c (4 * c) (xL K w ++ (mL K v ++ L)) 23 [(0, .ref b), (1, .ref (xa K 0)), (2, .ref (ma K 0)), (3, .ref qo), (4, .int x4)] []) (c : Nat) (x4 : Int32) (w v : Wd) (L : va_W) (hi : c ≤ 1200128) (h : B_law_c16 K n xs qo N r c x4 w v L) : gJ Γ K c (4 * c) (xL K w ++ (mL K v ++ L)) 944 [(0, .ref b), (1, .ref (xa K 0)), (2, .ref (ma K 0)), (3, .ref qo), (4, .int x4)] [] := by
  unfold B_law_c16 at h
  refine g_aload_n C 1 rfl dL_law_944 ?_
  refine g_aload_n C 0 rfl dL_law_945 ?_
  refine g_iload C 4 rfl dL_law_946 ?_
  refine g_iconst C 1 (by decide) dL_law_948 ?_
  refine g_iadd C dL_law_949 ?_
  obtain ⟨hb, h⟩ := h
  refine g_sld C hX hb dL_law_950 ?_
  refine g_aload_n C 0 rfl dL_law_951 ?_
  refine g_iload C 4 rfl dL_law_952 ?_
  refine g_iconst C 2 (by decide) dL_law_954 ?_
  refine g_iadd C dL_law_955 ?_
  obtain ⟨hb, h⟩ := h
  refine g_sld C hX hb dL_law_956 ?_
  refine g_callVi C (As := [.int (xs (x4 + 1).toNatClampNeg), .int (xs (x4 + 2).toNatClampNeg)]) (rest := []) (m_X1_many h) (lw_V q897 q898 q899 q78 q900) (ci := 0) (qi := 0) rfl rfl ⟨rfl, rfl⟩ ⟨Nat.le_of_ble_eq_true rfl, Nat.le_of_ble_eq_true rfl⟩ 2 rfl (by decide +kernel) rfl (Nat.le_of_ble_eq_true rfl) ⟨hi, by show 4 * (c) ≤ 5501098; omega⟩ dL_law_957 ?_
  rintro v1 _ ⟨w2, L3, rfl, L4, e5, h⟩
  subst e5
  refine g_aload_n C 2 rfl dL_law_960 ?_
  refine g_aload_n C 0 rfl dL_law_961 ?_
  refine g_iload C 4 rfl dL_law_962 ?_
  refine g_iconst C 1 (by decide) dL_law_964 ?_
  refine g_iadd C dL_law_965 ?_
  obtain ⟨hb, h⟩ := h
  refine g_sld C hX hb dL_law_966 ?_
  refine g_aload_n C 0 rfl dL_law_967 ?_
  refine g_iload C 4 rfl dL_law_968 ?_
  refine g_iconst C 2 (by decide) dL_law_970 ?_
  refine g_iadd C dL_law_971 ?_
  obtain ⟨hb, h⟩ := h
  refine g_sld C hX hb dL_law_972 ?_
  refine g_swap ?_
  refine g_callVi C (As := [.int (xs (x4 + 1).toNatClampNeg), .int (xs (x4 + 2).toNatClampNeg)]) (rest := [.int v1]) (m_X5_many h) (lw_V q1428 q1429 q1430 q84 q1431) (ci := 12) (qi := 0) rfl rfl ⟨rfl, rfl⟩ ⟨Nat.le_of_ble_eq_true rfl, Nat.le_of_ble_eq_true rfl⟩ 2 rfl (by decide +kernel) rfl (Nat.le_of_ble_eq_true rfl) ⟨hi, by show 4 * (c) ≤ 5501098; omega⟩ dL_law_973 ?_
  rintro v6 _ ⟨u7, L8, rfl, e9, h⟩
  subst e9
  refine g_swap' ?_
  refine g_icmp_eq C 1461 dL_law_976 (by decide) (fun hc => ?_) (fun hc => ?_)
  · replace h := h.1 hc
    refine g_iinc C 4 (x4 + 7) (lt := [(4, .int (x4 + 7)), (0, .ref b), (1, .ref (xa K 0)), (2, .ref (ma K 0)), (3, .ref qo)]) rfl rfl dL_law_1461 (by decide) rfl ?_
    refine g_goto C 23 dL_law_1464 (by decide) ?_
    refine g_sub [1, 2, 3, 4, 0] rfl ?_
    exact hr c (x4 + 7) w2 u7 L4 hi h
  · replace h := h.2 hc
    refine g_iconst C 0 (by decide) dL_law_979 ?_
    exact h.elim
def B_law_c17 (K : gK) (n : Nat) (xs : Nat → Int32) (qo N : Nat) (r : Nat → Int32 → Wd → Wd → va_W → Prop) (c : Nat) (x4 : Int32) (w v : Wd) (L : va_W) : Prop :=
  vp_in (x4 + 1) n ∧ vp_in (x4 + 2) n ∧ vp_in (x4 + 3) n ∧ B_X1_note N (xs (x4 + 1).toNatClampNeg) (xs (x4 + 2).toNatClampNeg) (xs (x4 + 3).toNatClampNeg) (fun (v1 : Int32) (w2 : Wd) (L3 : va_W) => ∃ L4 : va_W, L3 = mL K v ++ L4 ∧
    vp_in (x4 + 1) n ∧ vp_in (x4 + 2) n ∧ vp_in (x4 + 3) n ∧ B_X5_note N (xs (x4 + 1).toNatClampNeg) (xs (x4 + 2).toNatClampNeg) (xs (x4 + 3).toNatClampNeg) (fun (v6 : Int32) (u7 : Wd) (L8 : va_W) => L8 = xL K w2 ++ L4 ∧
    (v1 = v6 →
    r c (x4 + 7) w2 u7 L4) ∧
  (¬ v1 = v6 →
    False)) v (xL K w2 ++ L4)) w (mL K v ++ L)
set_option maxHeartbeats 4000000 in
theorem k_law_c17 {Γ : gT} {K : gK} {N b n qo : Nat} {xs : Nat → Int32} (C : gC Γ K "OneBearsLaw" cL_law 7 room_1) (hX : gScr Γ b n xs) (hl0 : Γ.l.stackTraces = false) (done : ∀ (c : Nat) (V : va_W) (pc : Nat) (ls : List (Nat × Value)), c ≤ 1200128 → decode cL_law pc = .ok (.ireturn, 1) → gJ Γ K c (4 * c) V pc ls [.int 1]) {r : Nat → Int32 → Wd → Wd → va_W → Prop} (hr : ∀ (c : Nat) (x4 : Int32) (w v : Wd) (L : va_W), c ≤ 1200128 → r c x4 w v L → gJ Γ K c (4 * c) (xL K w ++ (mL K v ++ L)) 23 [(0, .ref b), (1, .ref (xa K 0)), (2, .ref (ma K 0)), (3, .ref qo), (4, .int x4)] []) (c : Nat) (x4 : Int32) (w v : Wd) (L : va_W) (hi : c ≤ 1200128) (h : B_law_c17 K n xs qo N r c x4 w v L) : gJ Γ K c (4 * c) (xL K w ++ (mL K v ++ L)) 981 [(0, .ref b), (1, .ref (xa K 0)), (2, .ref (ma K 0)), (3, .ref qo), (4, .int x4)] [] := by
  unfold B_law_c17 at h
  refine g_aload_n C 1 rfl dL_law_981 ?_
  refine g_aload_n C 0 rfl dL_law_982 ?_
  refine g_iload C 4 rfl dL_law_983 ?_
  refine g_iconst C 1 (by decide) dL_law_985 ?_
  refine g_iadd C dL_law_986 ?_
  obtain ⟨hb, h⟩ := h
  refine g_sld C hX hb dL_law_987 ?_
  refine g_aload_n C 0 rfl dL_law_988 ?_
  refine g_iload C 4 rfl dL_law_989 ?_
  refine g_iconst C 2 (by decide) dL_law_991 ?_
  refine g_iadd C dL_law_992 ?_
  obtain ⟨hb, h⟩ := h
  refine g_sld C hX hb dL_law_993 ?_
  refine g_aload_n C 0 rfl dL_law_994 ?_
  refine g_iload C 4 rfl dL_law_995 ?_
  refine g_iconst C 3 (by decide) dL_law_997 ?_
  refine g_iadd C dL_law_998 ?_
  obtain ⟨hb, h⟩ := h
  refine g_sld C hX hb dL_law_999 ?_
  refine g_callVi C (As := [.int (xs (x4 + 1).toNatClampNeg), .int (xs (x4 + 2).toNatClampNeg), .int (xs (x4 + 3).toNatClampNeg)]) (rest := []) (m_X1_note h) (lw_V q901 q902 q903 q78 q904) (ci := 0) (qi := 0) rfl rfl ⟨rfl, rfl⟩ ⟨Nat.le_of_ble_eq_true rfl, Nat.le_of_ble_eq_true rfl⟩ 3 rfl (by decide +kernel) rfl (Nat.le_of_ble_eq_true rfl) ⟨hi, by show 4 * (c) ≤ 5501098; omega⟩ dL_law_1000 ?_
  rintro v1 _ ⟨w2, L3, rfl, L4, e5, h⟩
  subst e5
  refine g_aload_n C 2 rfl dL_law_1003 ?_
  refine g_aload_n C 0 rfl dL_law_1004 ?_
  refine g_iload C 4 rfl dL_law_1005 ?_
  refine g_iconst C 1 (by decide) dL_law_1007 ?_
  refine g_iadd C dL_law_1008 ?_
  obtain ⟨hb, h⟩ := h
  refine g_sld C hX hb dL_law_1009 ?_
  refine g_aload_n C 0 rfl dL_law_1010 ?_
  refine g_iload C 4 rfl dL_law_1011 ?_
  refine g_iconst C 2 (by decide) dL_law_1013 ?_
  refine g_iadd C dL_law_1014 ?_
  obtain ⟨hb, h⟩ := h
  refine g_sld C hX hb dL_law_1015 ?_
  refine g_aload_n C 0 rfl dL_law_1016 ?_
  refine g_iload C 4 rfl dL_law_1017 ?_
  refine g_iconst C 3 (by decide) dL_law_1019 ?_
  refine g_iadd C dL_law_1020 ?_
  obtain ⟨hb, h⟩ := h
  refine g_sld C hX hb dL_law_1021 ?_
  refine g_swap ?_
  refine g_callVi C (As := [.int (xs (x4 + 1).toNatClampNeg), .int (xs (x4 + 2).toNatClampNeg), .int (xs (x4 + 3).toNatClampNeg)]) (rest := [.int v1]) (m_X5_note h) (lw_V q1432 q1433 q1434 q84 q1435) (ci := 12) (qi := 0) rfl rfl ⟨rfl, rfl⟩ ⟨Nat.le_of_ble_eq_true rfl, Nat.le_of_ble_eq_true rfl⟩ 3 rfl (by decide +kernel) rfl (Nat.le_of_ble_eq_true rfl) ⟨hi, by show 4 * (c) ≤ 5501098; omega⟩ dL_law_1022 ?_
  rintro v6 _ ⟨u7, L8, rfl, e9, h⟩
  subst e9
  refine g_swap' ?_
  refine g_icmp_eq C 1461 dL_law_1025 (by decide) (fun hc => ?_) (fun hc => ?_)
  · replace h := h.1 hc
    refine g_iinc C 4 (x4 + 7) (lt := [(4, .int (x4 + 7)), (0, .ref b), (1, .ref (xa K 0)), (2, .ref (ma K 0)), (3, .ref qo)]) rfl rfl dL_law_1461 (by decide) rfl ?_
    refine g_goto C 23 dL_law_1464 (by decide) ?_
    refine g_sub [1, 2, 3, 4, 0] rfl ?_
    exact hr c (x4 + 7) w2 u7 L4 hi h
  · replace h := h.2 hc
    refine g_iconst C 0 (by decide) dL_law_1028 ?_
    exact h.elim
def B_law_c18 (K : gK) (n : Nat) (xs : Nat → Int32) (qo N : Nat) (r : Nat → Int32 → Wd → Wd → va_W → Prop) (c : Nat) (x4 : Int32) (w v : Wd) (L : va_W) : Prop :=
  vp_in (x4 + 1) n ∧ vp_in (x4 + 2) n ∧ B_X1_fits N ((((xs (x4 + 1).toNatClampNeg).toInt64) <<< ((32 : Int32).toInt64 &&& 63)) ||| (((xs (x4 + 2).toNatClampNeg).toInt64) &&& 4294967295)) (fun (v1 : Int32) (w2 : Wd) (L3 : va_W) => ∃ L4 : va_W, L3 = mL K v ++ L4 ∧
    vp_in (x4 + 1) n ∧ vp_in (x4 + 2) n ∧ B_X5_fits N ((((xs (x4 + 1).toNatClampNeg).toInt64) <<< ((32 : Int32).toInt64 &&& 63)) ||| (((xs (x4 + 2).toNatClampNeg).toInt64) &&& 4294967295)) (fun (v6 : Int32) (u7 : Wd) (L8 : va_W) => L8 = xL K w2 ++ L4 ∧
    (v1 = v6 →
    r c (x4 + 7) w2 u7 L4) ∧
  (¬ v1 = v6 →
    False)) v (xL K w2 ++ L4)) w (mL K v ++ L)
set_option maxHeartbeats 4000000 in
theorem k_law_c18 {Γ : gT} {K : gK} {N b n qo : Nat} {xs : Nat → Int32} (C : gC Γ K "OneBearsLaw" cL_law 7 room_1) (hX : gScr Γ b n xs) (hl0 : Γ.l.stackTraces = false) (done : ∀ (c : Nat) (V : va_W) (pc : Nat) (ls : List (Nat × Value)), c ≤ 1200128 → decode cL_law pc = .ok (.ireturn, 1) → gJ Γ K c (4 * c) V pc ls [.int 1]) {r : Nat → Int32 → Wd → Wd → va_W → Prop} (hr : ∀ (c : Nat) (x4 : Int32) (w v : Wd) (L : va_W), c ≤ 1200128 → r c x4 w v L → gJ Γ K c (4 * c) (xL K w ++ (mL K v ++ L)) 23 [(0, .ref b), (1, .ref (xa K 0)), (2, .ref (ma K 0)), (3, .ref qo), (4, .int x4)] []) (c : Nat) (x4 : Int32) (w v : Wd) (L : va_W) (hi : c ≤ 1200128) (h : B_law_c18 K n xs qo N r c x4 w v L) : gJ Γ K c (4 * c) (xL K w ++ (mL K v ++ L)) 1030 [(0, .ref b), (1, .ref (xa K 0)), (2, .ref (ma K 0)), (3, .ref qo), (4, .int x4)] [] := by
  unfold B_law_c18 at h
  refine g_aload_n C 1 rfl dL_law_1030 ?_
  refine g_aload_n C 0 rfl dL_law_1031 ?_
  refine g_iload C 4 rfl dL_law_1032 ?_
  refine g_iconst C 1 (by decide) dL_law_1034 ?_
  refine g_iadd C dL_law_1035 ?_
  obtain ⟨hb, h⟩ := h
  refine g_sld C hX hb dL_law_1036 ?_
  refine g_i2l C dL_law_1037 ?_
  refine g_bipush C 32 (by decide) dL_law_1038 ?_
  refine g_lshl C dL_law_1040 ?_
  refine g_aload_n C 0 rfl dL_law_1041 ?_
  refine g_iload C 4 rfl dL_law_1042 ?_
  refine g_iconst C 2 (by decide) dL_law_1044 ?_
  refine g_iadd C dL_law_1045 ?_
  obtain ⟨hb, h⟩ := h
  refine g_sld C hX hb dL_law_1046 ?_
  refine g_i2l C dL_law_1047 ?_
  refine g_ldc2 C (v := 4294967295) q1485 dL_law_1048 ?_
  refine g_land C dL_law_1051 ?_
  refine g_lor C dL_law_1052 ?_
  refine g_callVi C (As := [.long ((((xs (x4 + 1).toNatClampNeg).toInt64) <<< ((32 : Int32).toInt64 &&& 63)) ||| (((xs (x4 + 2).toNatClampNeg).toInt64) &&& 4294967295))]) (rest := []) (m_X1_fits h) (lw_V q905 q906 q907 q78 q908) (ci := 0) (qi := 0) rfl rfl ⟨rfl, rfl⟩ ⟨Nat.le_of_ble_eq_true rfl, Nat.le_of_ble_eq_true rfl⟩ 1 rfl (by decide +kernel) rfl (Nat.le_of_ble_eq_true rfl) ⟨hi, by show 4 * (c) ≤ 5501098; omega⟩ dL_law_1053 ?_
  rintro v1 _ ⟨w2, L3, rfl, L4, e5, h⟩
  subst e5
  refine g_aload_n C 2 rfl dL_law_1056 ?_
  refine g_aload_n C 0 rfl dL_law_1057 ?_
  refine g_iload C 4 rfl dL_law_1058 ?_
  refine g_iconst C 1 (by decide) dL_law_1060 ?_
  refine g_iadd C dL_law_1061 ?_
  obtain ⟨hb, h⟩ := h
  refine g_sld C hX hb dL_law_1062 ?_
  refine g_i2l C dL_law_1063 ?_
  refine g_bipush C 32 (by decide) dL_law_1064 ?_
  refine g_lshl C dL_law_1066 ?_
  refine g_aload_n C 0 rfl dL_law_1067 ?_
  refine g_iload C 4 rfl dL_law_1068 ?_
  refine g_iconst C 2 (by decide) dL_law_1070 ?_
  refine g_iadd C dL_law_1071 ?_
  obtain ⟨hb, h⟩ := h
  refine g_sld C hX hb dL_law_1072 ?_
  refine g_i2l C dL_law_1073 ?_
  refine g_ldc2 C (v := 4294967295) q1485 dL_law_1074 ?_
  refine g_land C dL_law_1077 ?_
  refine g_lor C dL_law_1078 ?_
  refine g_swap ?_
  refine g_callVi C (As := [.long ((((xs (x4 + 1).toNatClampNeg).toInt64) <<< ((32 : Int32).toInt64 &&& 63)) ||| (((xs (x4 + 2).toNatClampNeg).toInt64) &&& 4294967295))]) (rest := [.int v1]) (m_X5_fits h) (lw_V q1436 q1437 q1438 q84 q1439) (ci := 12) (qi := 0) rfl rfl ⟨rfl, rfl⟩ ⟨Nat.le_of_ble_eq_true rfl, Nat.le_of_ble_eq_true rfl⟩ 1 rfl (by decide +kernel) rfl (Nat.le_of_ble_eq_true rfl) ⟨hi, by show 4 * (c) ≤ 5501098; omega⟩ dL_law_1079 ?_
  rintro v6 _ ⟨u7, L8, rfl, e9, h⟩
  subst e9
  refine g_swap' ?_
  refine g_icmp_eq C 1461 dL_law_1082 (by decide) (fun hc => ?_) (fun hc => ?_)
  · replace h := h.1 hc
    refine g_iinc C 4 (x4 + 7) (lt := [(4, .int (x4 + 7)), (0, .ref b), (1, .ref (xa K 0)), (2, .ref (ma K 0)), (3, .ref qo)]) rfl rfl dL_law_1461 (by decide) rfl ?_
    refine g_goto C 23 dL_law_1464 (by decide) ?_
    refine g_sub [1, 2, 3, 4, 0] rfl ?_
    exact hr c (x4 + 7) w2 u7 L4 hi h
  · replace h := h.2 hc
    refine g_iconst C 0 (by decide) dL_law_1085 ?_
    exact h.elim
def B_law_c19 (K : gK) (n : Nat) (xs : Nat → Int32) (qo N : Nat) (r : Nat → Int32 → Wd → Wd → va_W → Prop) (c : Nat) (x4 : Int32) (w v : Wd) (L : va_W) : Prop :=
  vp_in (x4 + 1) n ∧ vp_in (x4 + 2) n ∧ vp_in (x4 + 3) n ∧ vp_in (x4 + 4) n ∧ B_X1_whatIf N (xs (x4 + 1).toNatClampNeg) ((((xs (x4 + 2).toNatClampNeg).toInt64) <<< ((32 : Int32).toInt64 &&& 63)) ||| (((xs (x4 + 3).toNatClampNeg).toInt64) &&& 4294967295)) (xs (x4 + 4).toNatClampNeg) (fun (v1 : Int32) (w2 : Wd) (L3 : va_W) => ∃ L4 : va_W, L3 = mL K v ++ L4 ∧
    vp_in (x4 + 1) n ∧ vp_in (x4 + 2) n ∧ vp_in (x4 + 3) n ∧ vp_in (x4 + 4) n ∧ B_X5_whatIf N (xs (x4 + 1).toNatClampNeg) ((((xs (x4 + 2).toNatClampNeg).toInt64) <<< ((32 : Int32).toInt64 &&& 63)) ||| (((xs (x4 + 3).toNatClampNeg).toInt64) &&& 4294967295)) (xs (x4 + 4).toNatClampNeg) (fun (v6 : Int32) (u7 : Wd) (L8 : va_W) => L8 = xL K w2 ++ L4 ∧
    (v1 = v6 →
    r c (x4 + 7) w2 u7 L4) ∧
  (¬ v1 = v6 →
    False)) v (xL K w2 ++ L4)) w (mL K v ++ L)
set_option maxHeartbeats 4000000 in
theorem k_law_c19 {Γ : gT} {K : gK} {N b n qo : Nat} {xs : Nat → Int32} (C : gC Γ K "OneBearsLaw" cL_law 7 room_1) (hX : gScr Γ b n xs) (hl0 : Γ.l.stackTraces = false) (done : ∀ (c : Nat) (V : va_W) (pc : Nat) (ls : List (Nat × Value)), c ≤ 1200128 → decode cL_law pc = .ok (.ireturn, 1) → gJ Γ K c (4 * c) V pc ls [.int 1]) {r : Nat → Int32 → Wd → Wd → va_W → Prop} (hr : ∀ (c : Nat) (x4 : Int32) (w v : Wd) (L : va_W), c ≤ 1200128 → r c x4 w v L → gJ Γ K c (4 * c) (xL K w ++ (mL K v ++ L)) 23 [(0, .ref b), (1, .ref (xa K 0)), (2, .ref (ma K 0)), (3, .ref qo), (4, .int x4)] []) (c : Nat) (x4 : Int32) (w v : Wd) (L : va_W) (hi : c ≤ 1200128) (h : B_law_c19 K n xs qo N r c x4 w v L) : gJ Γ K c (4 * c) (xL K w ++ (mL K v ++ L)) 1087 [(0, .ref b), (1, .ref (xa K 0)), (2, .ref (ma K 0)), (3, .ref qo), (4, .int x4)] [] := by
  unfold B_law_c19 at h
  refine g_aload_n C 1 rfl dL_law_1087 ?_
  refine g_aload_n C 0 rfl dL_law_1088 ?_
  refine g_iload C 4 rfl dL_law_1089 ?_
  refine g_iconst C 1 (by decide) dL_law_1091 ?_
  refine g_iadd C dL_law_1092 ?_
  obtain ⟨hb, h⟩ := h
  refine g_sld C hX hb dL_law_1093 ?_
  refine g_aload_n C 0 rfl dL_law_1094 ?_
  refine g_iload C 4 rfl dL_law_1095 ?_
  refine g_iconst C 2 (by decide) dL_law_1097 ?_
  refine g_iadd C dL_law_1098 ?_
  obtain ⟨hb, h⟩ := h
  refine g_sld C hX hb dL_law_1099 ?_
  refine g_i2l C dL_law_1100 ?_
  refine g_bipush C 32 (by decide) dL_law_1101 ?_
  refine g_lshl C dL_law_1103 ?_
  refine g_aload_n C 0 rfl dL_law_1104 ?_
  refine g_iload C 4 rfl dL_law_1105 ?_
  refine g_iconst C 3 (by decide) dL_law_1107 ?_
  refine g_iadd C dL_law_1108 ?_
  obtain ⟨hb, h⟩ := h
  refine g_sld C hX hb dL_law_1109 ?_
  refine g_i2l C dL_law_1110 ?_
  refine g_ldc2 C (v := 4294967295) q1485 dL_law_1111 ?_
  refine g_land C dL_law_1114 ?_
  refine g_lor C dL_law_1115 ?_
  refine g_aload_n C 0 rfl dL_law_1116 ?_
  refine g_iload C 4 rfl dL_law_1117 ?_
  refine g_iconst C 4 (by decide) dL_law_1119 ?_
  refine g_iadd C dL_law_1120 ?_
  obtain ⟨hb, h⟩ := h
  refine g_sld C hX hb dL_law_1121 ?_
  refine g_callVi C (As := [.int (xs (x4 + 1).toNatClampNeg), .long ((((xs (x4 + 2).toNatClampNeg).toInt64) <<< ((32 : Int32).toInt64 &&& 63)) ||| (((xs (x4 + 3).toNatClampNeg).toInt64) &&& 4294967295)), .int (xs (x4 + 4).toNatClampNeg)]) (rest := []) (m_X1_whatIf h) (lw_V q917 q918 q919 q78 q920) (ci := 0) (qi := 0) rfl rfl ⟨rfl, rfl⟩ ⟨Nat.le_of_ble_eq_true rfl, Nat.le_of_ble_eq_true rfl⟩ 3 rfl (by decide +kernel) rfl (Nat.le_of_ble_eq_true rfl) ⟨hi, by show 4 * (c) ≤ 5501098; omega⟩ dL_law_1122 ?_
  rintro v1 _ ⟨w2, L3, rfl, L4, e5, h⟩
  subst e5
  refine g_aload_n C 2 rfl dL_law_1125 ?_
  refine g_aload_n C 0 rfl dL_law_1126 ?_
  refine g_iload C 4 rfl dL_law_1127 ?_
  refine g_iconst C 1 (by decide) dL_law_1129 ?_
  refine g_iadd C dL_law_1130 ?_
  obtain ⟨hb, h⟩ := h
  refine g_sld C hX hb dL_law_1131 ?_
  refine g_aload_n C 0 rfl dL_law_1132 ?_
  refine g_iload C 4 rfl dL_law_1133 ?_
  refine g_iconst C 2 (by decide) dL_law_1135 ?_
  refine g_iadd C dL_law_1136 ?_
  obtain ⟨hb, h⟩ := h
  refine g_sld C hX hb dL_law_1137 ?_
  refine g_i2l C dL_law_1138 ?_
  refine g_bipush C 32 (by decide) dL_law_1139 ?_
  refine g_lshl C dL_law_1141 ?_
  refine g_aload_n C 0 rfl dL_law_1142 ?_
  refine g_iload C 4 rfl dL_law_1143 ?_
  refine g_iconst C 3 (by decide) dL_law_1145 ?_
  refine g_iadd C dL_law_1146 ?_
  obtain ⟨hb, h⟩ := h
  refine g_sld C hX hb dL_law_1147 ?_
  refine g_i2l C dL_law_1148 ?_
  refine g_ldc2 C (v := 4294967295) q1485 dL_law_1149 ?_
  refine g_land C dL_law_1152 ?_
  refine g_lor C dL_law_1153 ?_
  refine g_aload_n C 0 rfl dL_law_1154 ?_
  refine g_iload C 4 rfl dL_law_1155 ?_
  refine g_iconst C 4 (by decide) dL_law_1157 ?_
  refine g_iadd C dL_law_1158 ?_
  obtain ⟨hb, h⟩ := h
  refine g_sld C hX hb dL_law_1159 ?_
  refine g_swap ?_
  refine g_callVi C (As := [.int (xs (x4 + 1).toNatClampNeg), .long ((((xs (x4 + 2).toNatClampNeg).toInt64) <<< ((32 : Int32).toInt64 &&& 63)) ||| (((xs (x4 + 3).toNatClampNeg).toInt64) &&& 4294967295)), .int (xs (x4 + 4).toNatClampNeg)]) (rest := [.int v1]) (m_X5_whatIf h) (lw_V q1445 q1446 q1447 q84 q1448) (ci := 12) (qi := 0) rfl rfl ⟨rfl, rfl⟩ ⟨Nat.le_of_ble_eq_true rfl, Nat.le_of_ble_eq_true rfl⟩ 3 rfl (by decide +kernel) rfl (Nat.le_of_ble_eq_true rfl) ⟨hi, by show 4 * (c) ≤ 5501098; omega⟩ dL_law_1160 ?_
  rintro v6 _ ⟨u7, L8, rfl, e9, h⟩
  subst e9
  refine g_swap' ?_
  refine g_icmp_eq C 1461 dL_law_1163 (by decide) (fun hc => ?_) (fun hc => ?_)
  · replace h := h.1 hc
    refine g_iinc C 4 (x4 + 7) (lt := [(4, .int (x4 + 7)), (0, .ref b), (1, .ref (xa K 0)), (2, .ref (ma K 0)), (3, .ref qo)]) rfl rfl dL_law_1461 (by decide) rfl ?_
    refine g_goto C 23 dL_law_1464 (by decide) ?_
    refine g_sub [1, 2, 3, 4, 0] rfl ?_
    exact hr c (x4 + 7) w2 u7 L4 hi h
  · replace h := h.2 hc
    refine g_iconst C 0 (by decide) dL_law_1166 ?_
    exact h.elim
def B_law_c20 (K : gK) (n : Nat) (xs : Nat → Int32) (qo N : Nat) (r : Nat → Int32 → Wd → Wd → va_W → Prop) (c : Nat) (x4 : Int32) (w v : Wd) (L : va_W) : Prop :=
  vp_in (x4 + 1) n ∧ vp_in (x4 + 2) n ∧ B_X1_trial N (xs (x4 + 1).toNatClampNeg) (xs (x4 + 2).toNatClampNeg) (fun (v1 : Int32) (w2 : Wd) (L3 : va_W) => ∃ L4 : va_W, L3 = mL K v ++ L4 ∧
    vp_in (x4 + 1) n ∧ vp_in (x4 + 2) n ∧ B_X5_trial N (xs (x4 + 1).toNatClampNeg) (xs (x4 + 2).toNatClampNeg) (fun (v6 : Int32) (u7 : Wd) (L8 : va_W) => L8 = xL K w2 ++ L4 ∧
    (v1 = v6 →
    r c (x4 + 7) w2 u7 L4) ∧
  (¬ v1 = v6 →
    False)) v (xL K w2 ++ L4)) w (mL K v ++ L)
set_option maxHeartbeats 4000000 in
theorem k_law_c20 {Γ : gT} {K : gK} {N b n qo : Nat} {xs : Nat → Int32} (C : gC Γ K "OneBearsLaw" cL_law 7 room_1) (hX : gScr Γ b n xs) (hl0 : Γ.l.stackTraces = false) (done : ∀ (c : Nat) (V : va_W) (pc : Nat) (ls : List (Nat × Value)), c ≤ 1200128 → decode cL_law pc = .ok (.ireturn, 1) → gJ Γ K c (4 * c) V pc ls [.int 1]) {r : Nat → Int32 → Wd → Wd → va_W → Prop} (hr : ∀ (c : Nat) (x4 : Int32) (w v : Wd) (L : va_W), c ≤ 1200128 → r c x4 w v L → gJ Γ K c (4 * c) (xL K w ++ (mL K v ++ L)) 23 [(0, .ref b), (1, .ref (xa K 0)), (2, .ref (ma K 0)), (3, .ref qo), (4, .int x4)] []) (c : Nat) (x4 : Int32) (w v : Wd) (L : va_W) (hi : c ≤ 1200128) (h : B_law_c20 K n xs qo N r c x4 w v L) : gJ Γ K c (4 * c) (xL K w ++ (mL K v ++ L)) 1168 [(0, .ref b), (1, .ref (xa K 0)), (2, .ref (ma K 0)), (3, .ref qo), (4, .int x4)] [] := by
  unfold B_law_c20 at h
  refine g_aload_n C 1 rfl dL_law_1168 ?_
  refine g_aload_n C 0 rfl dL_law_1169 ?_
  refine g_iload C 4 rfl dL_law_1170 ?_
  refine g_iconst C 1 (by decide) dL_law_1172 ?_
  refine g_iadd C dL_law_1173 ?_
  obtain ⟨hb, h⟩ := h
  refine g_sld C hX hb dL_law_1174 ?_
  refine g_aload_n C 0 rfl dL_law_1175 ?_
  refine g_iload C 4 rfl dL_law_1176 ?_
  refine g_iconst C 2 (by decide) dL_law_1178 ?_
  refine g_iadd C dL_law_1179 ?_
  obtain ⟨hb, h⟩ := h
  refine g_sld C hX hb dL_law_1180 ?_
  refine g_callVi C (As := [.int (xs (x4 + 1).toNatClampNeg), .int (xs (x4 + 2).toNatClampNeg)]) (rest := []) (m_X1_trial h) (lw_V q921 q922 q923 q78 q924) (ci := 0) (qi := 0) rfl rfl ⟨rfl, rfl⟩ ⟨Nat.le_of_ble_eq_true rfl, Nat.le_of_ble_eq_true rfl⟩ 2 rfl (by decide +kernel) rfl (Nat.le_of_ble_eq_true rfl) ⟨hi, by show 4 * (c) ≤ 5501098; omega⟩ dL_law_1181 ?_
  rintro v1 _ ⟨w2, L3, rfl, L4, e5, h⟩
  subst e5
  refine g_aload_n C 2 rfl dL_law_1184 ?_
  refine g_aload_n C 0 rfl dL_law_1185 ?_
  refine g_iload C 4 rfl dL_law_1186 ?_
  refine g_iconst C 1 (by decide) dL_law_1188 ?_
  refine g_iadd C dL_law_1189 ?_
  obtain ⟨hb, h⟩ := h
  refine g_sld C hX hb dL_law_1190 ?_
  refine g_aload_n C 0 rfl dL_law_1191 ?_
  refine g_iload C 4 rfl dL_law_1192 ?_
  refine g_iconst C 2 (by decide) dL_law_1194 ?_
  refine g_iadd C dL_law_1195 ?_
  obtain ⟨hb, h⟩ := h
  refine g_sld C hX hb dL_law_1196 ?_
  refine g_swap ?_
  refine g_callVi C (As := [.int (xs (x4 + 1).toNatClampNeg), .int (xs (x4 + 2).toNatClampNeg)]) (rest := [.int v1]) (m_X5_trial h) (lw_V q1449 q1450 q1451 q84 q1452) (ci := 12) (qi := 0) rfl rfl ⟨rfl, rfl⟩ ⟨Nat.le_of_ble_eq_true rfl, Nat.le_of_ble_eq_true rfl⟩ 2 rfl (by decide +kernel) rfl (Nat.le_of_ble_eq_true rfl) ⟨hi, by show 4 * (c) ≤ 5501098; omega⟩ dL_law_1197 ?_
  rintro v6 _ ⟨u7, L8, rfl, e9, h⟩
  subst e9
  refine g_swap' ?_
  refine g_icmp_eq C 1461 dL_law_1200 (by decide) (fun hc => ?_) (fun hc => ?_)
  · replace h := h.1 hc
    refine g_iinc C 4 (x4 + 7) (lt := [(4, .int (x4 + 7)), (0, .ref b), (1, .ref (xa K 0)), (2, .ref (ma K 0)), (3, .ref qo)]) rfl rfl dL_law_1461 (by decide) rfl ?_
    refine g_goto C 23 dL_law_1464 (by decide) ?_
    refine g_sub [1, 2, 3, 4, 0] rfl ?_
    exact hr c (x4 + 7) w2 u7 L4 hi h
  · replace h := h.2 hc
    refine g_iconst C 0 (by decide) dL_law_1203 ?_
    exact h.elim
def B_law_c21 (K : gK) (n : Nat) (xs : Nat → Int32) (qo N : Nat) (r : Nat → Int32 → Wd → Wd → va_W → Prop) (c : Nat) (x4 : Int32) (w v : Wd) (L : va_W) : Prop :=
  vp_in (x4 + 1) n ∧ vp_in (x4 + 2) n ∧ vp_in (x4 + 3) n ∧ vp_in (x4 + 4) n ∧ B_X1_tells N (xs (x4 + 1).toNatClampNeg) (xs (x4 + 2).toNatClampNeg) ((((xs (x4 + 3).toNatClampNeg).toInt64) <<< ((32 : Int32).toInt64 &&& 63)) ||| (((xs (x4 + 4).toNatClampNeg).toInt64) &&& 4294967295)) (fun (v1 : Int32) (w2 : Wd) (L3 : va_W) => ∃ L4 : va_W, L3 = mL K v ++ L4 ∧
    vp_in (x4 + 1) n ∧ vp_in (x4 + 2) n ∧ vp_in (x4 + 3) n ∧ vp_in (x4 + 4) n ∧ B_X5_tells N (xs (x4 + 1).toNatClampNeg) (xs (x4 + 2).toNatClampNeg) ((((xs (x4 + 3).toNatClampNeg).toInt64) <<< ((32 : Int32).toInt64 &&& 63)) ||| (((xs (x4 + 4).toNatClampNeg).toInt64) &&& 4294967295)) (fun (v6 : Int32) (u7 : Wd) (L8 : va_W) => L8 = xL K w2 ++ L4 ∧
    (v1 = v6 →
    r c (x4 + 7) w2 u7 L4) ∧
  (¬ v1 = v6 →
    False)) v (xL K w2 ++ L4)) w (mL K v ++ L)
set_option maxHeartbeats 4000000 in
theorem k_law_c21 {Γ : gT} {K : gK} {N b n qo : Nat} {xs : Nat → Int32} (C : gC Γ K "OneBearsLaw" cL_law 7 room_1) (hX : gScr Γ b n xs) (hl0 : Γ.l.stackTraces = false) (done : ∀ (c : Nat) (V : va_W) (pc : Nat) (ls : List (Nat × Value)), c ≤ 1200128 → decode cL_law pc = .ok (.ireturn, 1) → gJ Γ K c (4 * c) V pc ls [.int 1]) {r : Nat → Int32 → Wd → Wd → va_W → Prop} (hr : ∀ (c : Nat) (x4 : Int32) (w v : Wd) (L : va_W), c ≤ 1200128 → r c x4 w v L → gJ Γ K c (4 * c) (xL K w ++ (mL K v ++ L)) 23 [(0, .ref b), (1, .ref (xa K 0)), (2, .ref (ma K 0)), (3, .ref qo), (4, .int x4)] []) (c : Nat) (x4 : Int32) (w v : Wd) (L : va_W) (hi : c ≤ 1200128) (h : B_law_c21 K n xs qo N r c x4 w v L) : gJ Γ K c (4 * c) (xL K w ++ (mL K v ++ L)) 1205 [(0, .ref b), (1, .ref (xa K 0)), (2, .ref (ma K 0)), (3, .ref qo), (4, .int x4)] [] := by
  unfold B_law_c21 at h
  refine g_aload_n C 1 rfl dL_law_1205 ?_
  refine g_aload_n C 0 rfl dL_law_1206 ?_
  refine g_iload C 4 rfl dL_law_1207 ?_
  refine g_iconst C 1 (by decide) dL_law_1209 ?_
  refine g_iadd C dL_law_1210 ?_
  obtain ⟨hb, h⟩ := h
  refine g_sld C hX hb dL_law_1211 ?_
  refine g_aload_n C 0 rfl dL_law_1212 ?_
  refine g_iload C 4 rfl dL_law_1213 ?_
  refine g_iconst C 2 (by decide) dL_law_1215 ?_
  refine g_iadd C dL_law_1216 ?_
  obtain ⟨hb, h⟩ := h
  refine g_sld C hX hb dL_law_1217 ?_
  refine g_aload_n C 0 rfl dL_law_1218 ?_
  refine g_iload C 4 rfl dL_law_1219 ?_
  refine g_iconst C 3 (by decide) dL_law_1221 ?_
  refine g_iadd C dL_law_1222 ?_
  obtain ⟨hb, h⟩ := h
  refine g_sld C hX hb dL_law_1223 ?_
  refine g_i2l C dL_law_1224 ?_
  refine g_bipush C 32 (by decide) dL_law_1225 ?_
  refine g_lshl C dL_law_1227 ?_
  refine g_aload_n C 0 rfl dL_law_1228 ?_
  refine g_iload C 4 rfl dL_law_1229 ?_
  refine g_iconst C 4 (by decide) dL_law_1231 ?_
  refine g_iadd C dL_law_1232 ?_
  obtain ⟨hb, h⟩ := h
  refine g_sld C hX hb dL_law_1233 ?_
  refine g_i2l C dL_law_1234 ?_
  refine g_ldc2 C (v := 4294967295) q1485 dL_law_1235 ?_
  refine g_land C dL_law_1238 ?_
  refine g_lor C dL_law_1239 ?_
  refine g_callVi C (As := [.int (xs (x4 + 1).toNatClampNeg), .int (xs (x4 + 2).toNatClampNeg), .long ((((xs (x4 + 3).toNatClampNeg).toInt64) <<< ((32 : Int32).toInt64 &&& 63)) ||| (((xs (x4 + 4).toNatClampNeg).toInt64) &&& 4294967295))]) (rest := []) (m_X1_tells h) (lw_V q925 q926 q927 q78 q928) (ci := 0) (qi := 0) rfl rfl ⟨rfl, rfl⟩ ⟨Nat.le_of_ble_eq_true rfl, Nat.le_of_ble_eq_true rfl⟩ 3 rfl (by decide +kernel) rfl (Nat.le_of_ble_eq_true rfl) ⟨hi, by show 4 * (c) ≤ 5501098; omega⟩ dL_law_1240 ?_
  rintro v1 _ ⟨w2, L3, rfl, L4, e5, h⟩
  subst e5
  refine g_aload_n C 2 rfl dL_law_1243 ?_
  refine g_aload_n C 0 rfl dL_law_1244 ?_
  refine g_iload C 4 rfl dL_law_1245 ?_
  refine g_iconst C 1 (by decide) dL_law_1247 ?_
  refine g_iadd C dL_law_1248 ?_
  obtain ⟨hb, h⟩ := h
  refine g_sld C hX hb dL_law_1249 ?_
  refine g_aload_n C 0 rfl dL_law_1250 ?_
  refine g_iload C 4 rfl dL_law_1251 ?_
  refine g_iconst C 2 (by decide) dL_law_1253 ?_
  refine g_iadd C dL_law_1254 ?_
  obtain ⟨hb, h⟩ := h
  refine g_sld C hX hb dL_law_1255 ?_
  refine g_aload_n C 0 rfl dL_law_1256 ?_
  refine g_iload C 4 rfl dL_law_1257 ?_
  refine g_iconst C 3 (by decide) dL_law_1259 ?_
  refine g_iadd C dL_law_1260 ?_
  obtain ⟨hb, h⟩ := h
  refine g_sld C hX hb dL_law_1261 ?_
  refine g_i2l C dL_law_1262 ?_
  refine g_bipush C 32 (by decide) dL_law_1263 ?_
  refine g_lshl C dL_law_1265 ?_
  refine g_aload_n C 0 rfl dL_law_1266 ?_
  refine g_iload C 4 rfl dL_law_1267 ?_
  refine g_iconst C 4 (by decide) dL_law_1269 ?_
  refine g_iadd C dL_law_1270 ?_
  obtain ⟨hb, h⟩ := h
  refine g_sld C hX hb dL_law_1271 ?_
  refine g_i2l C dL_law_1272 ?_
  refine g_ldc2 C (v := 4294967295) q1485 dL_law_1273 ?_
  refine g_land C dL_law_1276 ?_
  refine g_lor C dL_law_1277 ?_
  refine g_swap ?_
  refine g_callVi C (As := [.int (xs (x4 + 1).toNatClampNeg), .int (xs (x4 + 2).toNatClampNeg), .long ((((xs (x4 + 3).toNatClampNeg).toInt64) <<< ((32 : Int32).toInt64 &&& 63)) ||| (((xs (x4 + 4).toNatClampNeg).toInt64) &&& 4294967295))]) (rest := [.int v1]) (m_X5_tells h) (lw_V q1453 q1454 q1455 q84 q1456) (ci := 12) (qi := 0) rfl rfl ⟨rfl, rfl⟩ ⟨Nat.le_of_ble_eq_true rfl, Nat.le_of_ble_eq_true rfl⟩ 3 rfl (by decide +kernel) rfl (Nat.le_of_ble_eq_true rfl) ⟨hi, by show 4 * (c) ≤ 5501098; omega⟩ dL_law_1278 ?_
  rintro v6 _ ⟨u7, L8, rfl, e9, h⟩
  subst e9
  refine g_swap' ?_
  refine g_icmp_eq C 1461 dL_law_1281 (by decide) (fun hc => ?_) (fun hc => ?_)
  · replace h := h.1 hc
    refine g_iinc C 4 (x4 + 7) (lt := [(4, .int (x4 + 7)), (0, .ref b), (1, .ref (xa K 0)), (2, .ref (ma K 0)), (3, .ref qo)]) rfl rfl dL_law_1461 (by decide) rfl ?_
    refine g_goto C 23 dL_law_1464 (by decide) ?_
    refine g_sub [1, 2, 3, 4, 0] rfl ?_
    exact hr c (x4 + 7) w2 u7 L4 hi h
  · replace h := h.2 hc
    refine g_iconst C 0 (by decide) dL_law_1284 ?_
    exact h.elim
def B_law_c22 (K : gK) (n : Nat) (xs : Nat → Int32) (qo N : Nat) (r : Nat → Int32 → Wd → Wd → va_W → Prop) (c : Nat) (x4 : Int32) (w v : Wd) (L : va_W) : Prop :=
  vp_in (x4 + 1) n ∧ vp_in (x4 + 2) n ∧ vp_in (x4 + 3) n ∧ vp_in (x4 + 4) n ∧ B_X1_parted N (xs (x4 + 1).toNatClampNeg) (xs (x4 + 2).toNatClampNeg) ((((xs (x4 + 3).toNatClampNeg).toInt64) <<< ((32 : Int32).toInt64 &&& 63)) ||| (((xs (x4 + 4).toNatClampNeg).toInt64) &&& 4294967295)) (fun (v1 : Int32) (w2 : Wd) (L3 : va_W) => ∃ L4 : va_W, L3 = mL K v ++ L4 ∧
    vp_in (x4 + 1) n ∧ vp_in (x4 + 2) n ∧ vp_in (x4 + 3) n ∧ vp_in (x4 + 4) n ∧ B_X5_parted N (xs (x4 + 1).toNatClampNeg) (xs (x4 + 2).toNatClampNeg) ((((xs (x4 + 3).toNatClampNeg).toInt64) <<< ((32 : Int32).toInt64 &&& 63)) ||| (((xs (x4 + 4).toNatClampNeg).toInt64) &&& 4294967295)) (fun (v6 : Int32) (u7 : Wd) (L8 : va_W) => L8 = xL K w2 ++ L4 ∧
    (v1 = v6 →
    r c (x4 + 7) w2 u7 L4) ∧
  (¬ v1 = v6 →
    False)) v (xL K w2 ++ L4)) w (mL K v ++ L)
set_option maxHeartbeats 4000000 in
theorem k_law_c22 {Γ : gT} {K : gK} {N b n qo : Nat} {xs : Nat → Int32} (C : gC Γ K "OneBearsLaw" cL_law 7 room_1) (hX : gScr Γ b n xs) (hl0 : Γ.l.stackTraces = false) (done : ∀ (c : Nat) (V : va_W) (pc : Nat) (ls : List (Nat × Value)), c ≤ 1200128 → decode cL_law pc = .ok (.ireturn, 1) → gJ Γ K c (4 * c) V pc ls [.int 1]) {r : Nat → Int32 → Wd → Wd → va_W → Prop} (hr : ∀ (c : Nat) (x4 : Int32) (w v : Wd) (L : va_W), c ≤ 1200128 → r c x4 w v L → gJ Γ K c (4 * c) (xL K w ++ (mL K v ++ L)) 23 [(0, .ref b), (1, .ref (xa K 0)), (2, .ref (ma K 0)), (3, .ref qo), (4, .int x4)] []) (c : Nat) (x4 : Int32) (w v : Wd) (L : va_W) (hi : c ≤ 1200128) (h : B_law_c22 K n xs qo N r c x4 w v L) : gJ Γ K c (4 * c) (xL K w ++ (mL K v ++ L)) 1286 [(0, .ref b), (1, .ref (xa K 0)), (2, .ref (ma K 0)), (3, .ref qo), (4, .int x4)] [] := by
  unfold B_law_c22 at h
  refine g_aload_n C 1 rfl dL_law_1286 ?_
  refine g_aload_n C 0 rfl dL_law_1287 ?_
  refine g_iload C 4 rfl dL_law_1288 ?_
  refine g_iconst C 1 (by decide) dL_law_1290 ?_
  refine g_iadd C dL_law_1291 ?_
  obtain ⟨hb, h⟩ := h
  refine g_sld C hX hb dL_law_1292 ?_
  refine g_aload_n C 0 rfl dL_law_1293 ?_
  refine g_iload C 4 rfl dL_law_1294 ?_
  refine g_iconst C 2 (by decide) dL_law_1296 ?_
  refine g_iadd C dL_law_1297 ?_
  obtain ⟨hb, h⟩ := h
  refine g_sld C hX hb dL_law_1298 ?_
  refine g_aload_n C 0 rfl dL_law_1299 ?_
  refine g_iload C 4 rfl dL_law_1300 ?_
  refine g_iconst C 3 (by decide) dL_law_1302 ?_
  refine g_iadd C dL_law_1303 ?_
  obtain ⟨hb, h⟩ := h
  refine g_sld C hX hb dL_law_1304 ?_
  refine g_i2l C dL_law_1305 ?_
  refine g_bipush C 32 (by decide) dL_law_1306 ?_
  refine g_lshl C dL_law_1308 ?_
  refine g_aload_n C 0 rfl dL_law_1309 ?_
  refine g_iload C 4 rfl dL_law_1310 ?_
  refine g_iconst C 4 (by decide) dL_law_1312 ?_
  refine g_iadd C dL_law_1313 ?_
  obtain ⟨hb, h⟩ := h
  refine g_sld C hX hb dL_law_1314 ?_
  refine g_i2l C dL_law_1315 ?_
  refine g_ldc2 C (v := 4294967295) q1485 dL_law_1316 ?_
  refine g_land C dL_law_1319 ?_
  refine g_lor C dL_law_1320 ?_
  refine g_callVi C (As := [.int (xs (x4 + 1).toNatClampNeg), .int (xs (x4 + 2).toNatClampNeg), .long ((((xs (x4 + 3).toNatClampNeg).toInt64) <<< ((32 : Int32).toInt64 &&& 63)) ||| (((xs (x4 + 4).toNatClampNeg).toInt64) &&& 4294967295))]) (rest := []) (m_X1_parted h) (lw_V q938 q939 q940 q78 q941) (ci := 0) (qi := 0) rfl rfl ⟨rfl, rfl⟩ ⟨Nat.le_of_ble_eq_true rfl, Nat.le_of_ble_eq_true rfl⟩ 3 rfl (by decide +kernel) rfl (Nat.le_of_ble_eq_true rfl) ⟨hi, by show 4 * (c) ≤ 5501098; omega⟩ dL_law_1321 ?_
  rintro v1 _ ⟨w2, L3, rfl, L4, e5, h⟩
  subst e5
  refine g_aload_n C 2 rfl dL_law_1324 ?_
  refine g_aload_n C 0 rfl dL_law_1325 ?_
  refine g_iload C 4 rfl dL_law_1326 ?_
  refine g_iconst C 1 (by decide) dL_law_1328 ?_
  refine g_iadd C dL_law_1329 ?_
  obtain ⟨hb, h⟩ := h
  refine g_sld C hX hb dL_law_1330 ?_
  refine g_aload_n C 0 rfl dL_law_1331 ?_
  refine g_iload C 4 rfl dL_law_1332 ?_
  refine g_iconst C 2 (by decide) dL_law_1334 ?_
  refine g_iadd C dL_law_1335 ?_
  obtain ⟨hb, h⟩ := h
  refine g_sld C hX hb dL_law_1336 ?_
  refine g_aload_n C 0 rfl dL_law_1337 ?_
  refine g_iload C 4 rfl dL_law_1338 ?_
  refine g_iconst C 3 (by decide) dL_law_1340 ?_
  refine g_iadd C dL_law_1341 ?_
  obtain ⟨hb, h⟩ := h
  refine g_sld C hX hb dL_law_1342 ?_
  refine g_i2l C dL_law_1343 ?_
  refine g_bipush C 32 (by decide) dL_law_1344 ?_
  refine g_lshl C dL_law_1346 ?_
  refine g_aload_n C 0 rfl dL_law_1347 ?_
  refine g_iload C 4 rfl dL_law_1348 ?_
  refine g_iconst C 4 (by decide) dL_law_1350 ?_
  refine g_iadd C dL_law_1351 ?_
  obtain ⟨hb, h⟩ := h
  refine g_sld C hX hb dL_law_1352 ?_
  refine g_i2l C dL_law_1353 ?_
  refine g_ldc2 C (v := 4294967295) q1485 dL_law_1354 ?_
  refine g_land C dL_law_1357 ?_
  refine g_lor C dL_law_1358 ?_
  refine g_swap ?_
  refine g_callVi C (As := [.int (xs (x4 + 1).toNatClampNeg), .int (xs (x4 + 2).toNatClampNeg), .long ((((xs (x4 + 3).toNatClampNeg).toInt64) <<< ((32 : Int32).toInt64 &&& 63)) ||| (((xs (x4 + 4).toNatClampNeg).toInt64) &&& 4294967295))]) (rest := [.int v1]) (m_X5_parted h) (lw_V q1465 q1466 q1467 q84 q1468) (ci := 12) (qi := 0) rfl rfl ⟨rfl, rfl⟩ ⟨Nat.le_of_ble_eq_true rfl, Nat.le_of_ble_eq_true rfl⟩ 3 rfl (by decide +kernel) rfl (Nat.le_of_ble_eq_true rfl) ⟨hi, by show 4 * (c) ≤ 5501098; omega⟩ dL_law_1359 ?_
  rintro v6 _ ⟨u7, L8, rfl, e9, h⟩
  subst e9
  refine g_swap' ?_
  refine g_icmp_eq C 1461 dL_law_1362 (by decide) (fun hc => ?_) (fun hc => ?_)
  · replace h := h.1 hc
    refine g_iinc C 4 (x4 + 7) (lt := [(4, .int (x4 + 7)), (0, .ref b), (1, .ref (xa K 0)), (2, .ref (ma K 0)), (3, .ref qo)]) rfl rfl dL_law_1461 (by decide) rfl ?_
    refine g_goto C 23 dL_law_1464 (by decide) ?_
    refine g_sub [1, 2, 3, 4, 0] rfl ?_
    exact hr c (x4 + 7) w2 u7 L4 hi h
  · replace h := h.2 hc
    refine g_iconst C 0 (by decide) dL_law_1365 ?_
    exact h.elim
def B_law_c23 (K : gK) (n : Nat) (xs : Nat → Int32) (qo N : Nat) (r : Nat → Int32 → Wd → Wd → va_W → Prop) (c : Nat) (x4 : Int32) (w v : Wd) (L : va_W) : Prop :=
  vp_in (x4 + 1) n ∧ vp_in (x4 + 2) n ∧ vp_in (x4 + 3) n ∧ B_X1_next N (xs (x4 + 1).toNatClampNeg) ((((xs (x4 + 2).toNatClampNeg).toInt64) <<< ((32 : Int32).toInt64 &&& 63)) ||| (((xs (x4 + 3).toNatClampNeg).toInt64) &&& 4294967295)) (fun (v1 : Int32) (w2 : Wd) (L3 : va_W) => ∃ L4 : va_W, L3 = mL K v ++ L4 ∧
    vp_in (x4 + 1) n ∧ vp_in (x4 + 2) n ∧ vp_in (x4 + 3) n ∧ B_X5_next N (xs (x4 + 1).toNatClampNeg) ((((xs (x4 + 2).toNatClampNeg).toInt64) <<< ((32 : Int32).toInt64 &&& 63)) ||| (((xs (x4 + 3).toNatClampNeg).toInt64) &&& 4294967295)) (fun (v6 : Int32) (u7 : Wd) (L8 : va_W) => L8 = xL K w2 ++ L4 ∧
    (v1 = v6 →
    r c (x4 + 7) w2 u7 L4) ∧
  (¬ v1 = v6 →
    False)) v (xL K w2 ++ L4)) w (mL K v ++ L)
set_option maxHeartbeats 4000000 in
theorem k_law_c23 {Γ : gT} {K : gK} {N b n qo : Nat} {xs : Nat → Int32} (C : gC Γ K "OneBearsLaw" cL_law 7 room_1) (hX : gScr Γ b n xs) (hl0 : Γ.l.stackTraces = false) (done : ∀ (c : Nat) (V : va_W) (pc : Nat) (ls : List (Nat × Value)), c ≤ 1200128 → decode cL_law pc = .ok (.ireturn, 1) → gJ Γ K c (4 * c) V pc ls [.int 1]) {r : Nat → Int32 → Wd → Wd → va_W → Prop} (hr : ∀ (c : Nat) (x4 : Int32) (w v : Wd) (L : va_W), c ≤ 1200128 → r c x4 w v L → gJ Γ K c (4 * c) (xL K w ++ (mL K v ++ L)) 23 [(0, .ref b), (1, .ref (xa K 0)), (2, .ref (ma K 0)), (3, .ref qo), (4, .int x4)] []) (c : Nat) (x4 : Int32) (w v : Wd) (L : va_W) (hi : c ≤ 1200128) (h : B_law_c23 K n xs qo N r c x4 w v L) : gJ Γ K c (4 * c) (xL K w ++ (mL K v ++ L)) 1367 [(0, .ref b), (1, .ref (xa K 0)), (2, .ref (ma K 0)), (3, .ref qo), (4, .int x4)] [] := by
  unfold B_law_c23 at h
  refine g_aload_n C 1 rfl dL_law_1367 ?_
  refine g_aload_n C 0 rfl dL_law_1368 ?_
  refine g_iload C 4 rfl dL_law_1369 ?_
  refine g_iconst C 1 (by decide) dL_law_1371 ?_
  refine g_iadd C dL_law_1372 ?_
  obtain ⟨hb, h⟩ := h
  refine g_sld C hX hb dL_law_1373 ?_
  refine g_aload_n C 0 rfl dL_law_1374 ?_
  refine g_iload C 4 rfl dL_law_1375 ?_
  refine g_iconst C 2 (by decide) dL_law_1377 ?_
  refine g_iadd C dL_law_1378 ?_
  obtain ⟨hb, h⟩ := h
  refine g_sld C hX hb dL_law_1379 ?_
  refine g_i2l C dL_law_1380 ?_
  refine g_bipush C 32 (by decide) dL_law_1381 ?_
  refine g_lshl C dL_law_1383 ?_
  refine g_aload_n C 0 rfl dL_law_1384 ?_
  refine g_iload C 4 rfl dL_law_1385 ?_
  refine g_iconst C 3 (by decide) dL_law_1387 ?_
  refine g_iadd C dL_law_1388 ?_
  obtain ⟨hb, h⟩ := h
  refine g_sld C hX hb dL_law_1389 ?_
  refine g_i2l C dL_law_1390 ?_
  refine g_ldc2 C (v := 4294967295) q1485 dL_law_1391 ?_
  refine g_land C dL_law_1394 ?_
  refine g_lor C dL_law_1395 ?_
  refine g_callVi C (As := [.int (xs (x4 + 1).toNatClampNeg), .long ((((xs (x4 + 2).toNatClampNeg).toInt64) <<< ((32 : Int32).toInt64 &&& 63)) ||| (((xs (x4 + 3).toNatClampNeg).toInt64) &&& 4294967295))]) (rest := []) (m_X1_next h) (lw_V q950 q951 q952 q78 q953) (ci := 0) (qi := 0) rfl rfl ⟨rfl, rfl⟩ ⟨Nat.le_of_ble_eq_true rfl, Nat.le_of_ble_eq_true rfl⟩ 2 rfl (by decide +kernel) rfl (Nat.le_of_ble_eq_true rfl) ⟨hi, by show 4 * (c) ≤ 5501098; omega⟩ dL_law_1396 ?_
  rintro v1 _ ⟨w2, L3, rfl, L4, e5, h⟩
  subst e5
  refine g_aload_n C 2 rfl dL_law_1399 ?_
  refine g_aload_n C 0 rfl dL_law_1400 ?_
  refine g_iload C 4 rfl dL_law_1401 ?_
  refine g_iconst C 1 (by decide) dL_law_1403 ?_
  refine g_iadd C dL_law_1404 ?_
  obtain ⟨hb, h⟩ := h
  refine g_sld C hX hb dL_law_1405 ?_
  refine g_aload_n C 0 rfl dL_law_1406 ?_
  refine g_iload C 4 rfl dL_law_1407 ?_
  refine g_iconst C 2 (by decide) dL_law_1409 ?_
  refine g_iadd C dL_law_1410 ?_
  obtain ⟨hb, h⟩ := h
  refine g_sld C hX hb dL_law_1411 ?_
  refine g_i2l C dL_law_1412 ?_
  refine g_bipush C 32 (by decide) dL_law_1413 ?_
  refine g_lshl C dL_law_1415 ?_
  refine g_aload_n C 0 rfl dL_law_1416 ?_
  refine g_iload C 4 rfl dL_law_1417 ?_
  refine g_iconst C 3 (by decide) dL_law_1419 ?_
  refine g_iadd C dL_law_1420 ?_
  obtain ⟨hb, h⟩ := h
  refine g_sld C hX hb dL_law_1421 ?_
  refine g_i2l C dL_law_1422 ?_
  refine g_ldc2 C (v := 4294967295) q1485 dL_law_1423 ?_
  refine g_land C dL_law_1426 ?_
  refine g_lor C dL_law_1427 ?_
  refine g_swap ?_
  refine g_callVi C (As := [.int (xs (x4 + 1).toNatClampNeg), .long ((((xs (x4 + 2).toNatClampNeg).toInt64) <<< ((32 : Int32).toInt64 &&& 63)) ||| (((xs (x4 + 3).toNatClampNeg).toInt64) &&& 4294967295))]) (rest := [.int v1]) (m_X5_next h) (lw_V q1477 q1478 q1479 q84 q1480) (ci := 12) (qi := 0) rfl rfl ⟨rfl, rfl⟩ ⟨Nat.le_of_ble_eq_true rfl, Nat.le_of_ble_eq_true rfl⟩ 2 rfl (by decide +kernel) rfl (Nat.le_of_ble_eq_true rfl) ⟨hi, by show 4 * (c) ≤ 5501098; omega⟩ dL_law_1428 ?_
  rintro v6 _ ⟨u7, L8, rfl, e9, h⟩
  subst e9
  refine g_swap' ?_
  refine g_icmp_eq C 1461 dL_law_1431 (by decide) (fun hc => ?_) (fun hc => ?_)
  · replace h := h.1 hc
    refine g_iinc C 4 (x4 + 7) (lt := [(4, .int (x4 + 7)), (0, .ref b), (1, .ref (xa K 0)), (2, .ref (ma K 0)), (3, .ref qo)]) rfl rfl dL_law_1461 (by decide) rfl ?_
    refine g_goto C 23 dL_law_1464 (by decide) ?_
    refine g_sub [1, 2, 3, 4, 0] rfl ?_
    exact hr c (x4 + 7) w2 u7 L4 hi h
  · replace h := h.2 hc
    refine g_iconst C 0 (by decide) dL_law_1434 ?_
    exact h.elim
def B_law_c24 (K : gK) (n : Nat) (xs : Nat → Int32) (qo N : Nat) (r : Nat → Int32 → Wd → Wd → va_W → Prop) (c : Nat) (x4 : Int32) (w v : Wd) (L : va_W) : Prop :=
  vp_in (x4 + 1) n ∧ B_X1_count N (xs (x4 + 1).toNatClampNeg) (fun (v1 : Int32) (w2 : Wd) (L3 : va_W) => ∃ L4 : va_W, L3 = mL K v ++ L4 ∧
    vp_in (x4 + 1) n ∧ B_X5_count N (xs (x4 + 1).toNatClampNeg) (fun (v6 : Int32) (u7 : Wd) (L8 : va_W) => L8 = xL K w2 ++ L4 ∧
    (v1 = v6 →
    r c (x4 + 7) w2 u7 L4) ∧
  (¬ v1 = v6 →
    False)) v (xL K w2 ++ L4)) w (mL K v ++ L)
set_option maxHeartbeats 4000000 in
theorem k_law_c24 {Γ : gT} {K : gK} {N b n qo : Nat} {xs : Nat → Int32} (C : gC Γ K "OneBearsLaw" cL_law 7 room_1) (hX : gScr Γ b n xs) (hl0 : Γ.l.stackTraces = false) (done : ∀ (c : Nat) (V : va_W) (pc : Nat) (ls : List (Nat × Value)), c ≤ 1200128 → decode cL_law pc = .ok (.ireturn, 1) → gJ Γ K c (4 * c) V pc ls [.int 1]) {r : Nat → Int32 → Wd → Wd → va_W → Prop} (hr : ∀ (c : Nat) (x4 : Int32) (w v : Wd) (L : va_W), c ≤ 1200128 → r c x4 w v L → gJ Γ K c (4 * c) (xL K w ++ (mL K v ++ L)) 23 [(0, .ref b), (1, .ref (xa K 0)), (2, .ref (ma K 0)), (3, .ref qo), (4, .int x4)] []) (c : Nat) (x4 : Int32) (w v : Wd) (L : va_W) (hi : c ≤ 1200128) (h : B_law_c24 K n xs qo N r c x4 w v L) : gJ Γ K c (4 * c) (xL K w ++ (mL K v ++ L)) 1436 [(0, .ref b), (1, .ref (xa K 0)), (2, .ref (ma K 0)), (3, .ref qo), (4, .int x4)] [] := by
  unfold B_law_c24 at h
  refine g_aload_n C 1 rfl dL_law_1436 ?_
  refine g_aload_n C 0 rfl dL_law_1437 ?_
  refine g_iload C 4 rfl dL_law_1438 ?_
  refine g_iconst C 1 (by decide) dL_law_1440 ?_
  refine g_iadd C dL_law_1441 ?_
  obtain ⟨hb, h⟩ := h
  refine g_sld C hX hb dL_law_1442 ?_
  refine g_callVi C (As := [.int (xs (x4 + 1).toNatClampNeg)]) (rest := []) (m_X1_count h) (lw_V q954 q955 q956 q78 q957) (ci := 0) (qi := 0) rfl rfl ⟨rfl, rfl⟩ ⟨Nat.le_of_ble_eq_true rfl, Nat.le_of_ble_eq_true rfl⟩ 1 rfl (by decide +kernel) rfl (Nat.le_of_ble_eq_true rfl) ⟨hi, by show 4 * (c) ≤ 5501098; omega⟩ dL_law_1443 ?_
  rintro v1 _ ⟨w2, L3, rfl, L4, e5, h⟩
  subst e5
  refine g_aload_n C 2 rfl dL_law_1446 ?_
  refine g_aload_n C 0 rfl dL_law_1447 ?_
  refine g_iload C 4 rfl dL_law_1448 ?_
  refine g_iconst C 1 (by decide) dL_law_1450 ?_
  refine g_iadd C dL_law_1451 ?_
  obtain ⟨hb, h⟩ := h
  refine g_sld C hX hb dL_law_1452 ?_
  refine g_swap ?_
  refine g_callVi C (As := [.int (xs (x4 + 1).toNatClampNeg)]) (rest := [.int v1]) (m_X5_count h) (lw_V q1481 q1482 q1483 q84 q1484) (ci := 12) (qi := 0) rfl rfl ⟨rfl, rfl⟩ ⟨Nat.le_of_ble_eq_true rfl, Nat.le_of_ble_eq_true rfl⟩ 1 rfl (by decide +kernel) rfl (Nat.le_of_ble_eq_true rfl) ⟨hi, by show 4 * (c) ≤ 5501098; omega⟩ dL_law_1453 ?_
  rintro v6 _ ⟨u7, L8, rfl, e9, h⟩
  subst e9
  refine g_swap' ?_
  refine g_icmp_eq C 1461 dL_law_1456 (by decide) (fun hc => ?_) (fun hc => ?_)
  · replace h := h.1 hc
    refine g_iinc C 4 (x4 + 7) (lt := [(4, .int (x4 + 7)), (0, .ref b), (1, .ref (xa K 0)), (2, .ref (ma K 0)), (3, .ref qo)]) rfl rfl dL_law_1461 (by decide) rfl ?_
    refine g_goto C 23 dL_law_1464 (by decide) ?_
    refine g_sub [1, 2, 3, 4, 0] rfl ?_
    exact hr c (x4 + 7) w2 u7 L4 hi h
  · replace h := h.2 hc
    refine g_iconst C 0 (by decide) dL_law_1459 ?_
    exact h.elim
def B_law_23s (K : gK) (n : Nat) (xs : Nat → Int32) (qo N : Nat) (r : Nat → Int32 → Wd → Wd → va_W → Prop) (c : Nat) (x4 : Int32) (w v : Wd) (L : va_W) : Prop :=
  ¬ (Int32.ofNat n - 7) < x4 → vp_in x4 n ∧ ((xs x4.toNatClampNeg &&& 31) = 0 → B_law_c0 K n xs qo N r c x4 w v L) ∧
    (¬ (xs x4.toNatClampNeg &&& 31) = 0 → ((xs x4.toNatClampNeg &&& 31) = 1 → B_law_c1 K n xs qo N r c x4 w v L) ∧
    (¬ (xs x4.toNatClampNeg &&& 31) = 1 → ((xs x4.toNatClampNeg &&& 31) = 2 → B_law_c2 K n xs qo N r c x4 w v L) ∧
    (¬ (xs x4.toNatClampNeg &&& 31) = 2 → ((xs x4.toNatClampNeg &&& 31) = 3 → B_law_c3 K n xs qo N r c x4 w v L) ∧
    (¬ (xs x4.toNatClampNeg &&& 31) = 3 → ((xs x4.toNatClampNeg &&& 31) = 4 → B_law_c4 K n xs qo N r c x4 w v L) ∧
    (¬ (xs x4.toNatClampNeg &&& 31) = 4 → ((xs x4.toNatClampNeg &&& 31) = 5 → B_law_c5 K n xs qo N r c x4 w v L) ∧
    (¬ (xs x4.toNatClampNeg &&& 31) = 5 → ((xs x4.toNatClampNeg &&& 31) = 6 → B_law_c6 K n xs qo N r c x4 w v L) ∧
    (¬ (xs x4.toNatClampNeg &&& 31) = 6 → ((xs x4.toNatClampNeg &&& 31) = 7 → B_law_c7 K n xs qo N r c x4 w v L) ∧
    (¬ (xs x4.toNatClampNeg &&& 31) = 7 → ((xs x4.toNatClampNeg &&& 31) = 8 → B_law_c8 K n xs qo N r c x4 w v L) ∧
    (¬ (xs x4.toNatClampNeg &&& 31) = 8 → ((xs x4.toNatClampNeg &&& 31) = 9 → B_law_c9 K n xs qo N r c x4 w v L) ∧
    (¬ (xs x4.toNatClampNeg &&& 31) = 9 → ((xs x4.toNatClampNeg &&& 31) = 10 → B_law_c10 K n xs qo N r c x4 w v L) ∧
    (¬ (xs x4.toNatClampNeg &&& 31) = 10 → ((xs x4.toNatClampNeg &&& 31) = 11 → B_law_c11 K n xs qo N r c x4 w v L) ∧
    (¬ (xs x4.toNatClampNeg &&& 31) = 11 → ((xs x4.toNatClampNeg &&& 31) = 12 → B_law_c12 K n xs qo N r c x4 w v L) ∧
    (¬ (xs x4.toNatClampNeg &&& 31) = 12 → ((xs x4.toNatClampNeg &&& 31) = 13 → B_law_c13 K n xs qo N r c x4 w v L) ∧
    (¬ (xs x4.toNatClampNeg &&& 31) = 13 → ((xs x4.toNatClampNeg &&& 31) = 14 → B_law_c14 K n xs qo N r c x4 w v L) ∧
    (¬ (xs x4.toNatClampNeg &&& 31) = 14 → ((xs x4.toNatClampNeg &&& 31) = 15 → B_law_c15 K n xs qo N r c x4 w v L) ∧
    (¬ (xs x4.toNatClampNeg &&& 31) = 15 → ((xs x4.toNatClampNeg &&& 31) = 16 → B_law_c16 K n xs qo N r c x4 w v L) ∧
    (¬ (xs x4.toNatClampNeg &&& 31) = 16 → ((xs x4.toNatClampNeg &&& 31) = 17 → B_law_c17 K n xs qo N r c x4 w v L) ∧
    (¬ (xs x4.toNatClampNeg &&& 31) = 17 → ((xs x4.toNatClampNeg &&& 31) = 18 → B_law_c18 K n xs qo N r c x4 w v L) ∧
    (¬ (xs x4.toNatClampNeg &&& 31) = 18 → ((xs x4.toNatClampNeg &&& 31) = 19 → B_law_c19 K n xs qo N r c x4 w v L) ∧
    (¬ (xs x4.toNatClampNeg &&& 31) = 19 → ((xs x4.toNatClampNeg &&& 31) = 20 → B_law_c20 K n xs qo N r c x4 w v L) ∧
    (¬ (xs x4.toNatClampNeg &&& 31) = 20 → ((xs x4.toNatClampNeg &&& 31) = 21 → B_law_c21 K n xs qo N r c x4 w v L) ∧
    (¬ (xs x4.toNatClampNeg &&& 31) = 21 → ((xs x4.toNatClampNeg &&& 31) = 22 → B_law_c22 K n xs qo N r c x4 w v L) ∧
    (¬ (xs x4.toNatClampNeg &&& 31) = 22 → ((xs x4.toNatClampNeg &&& 31) = 23 → B_law_c23 K n xs qo N r c x4 w v L) ∧
    (¬ (xs x4.toNatClampNeg &&& 31) = 23 → ((xs x4.toNatClampNeg &&& 31) = 24 → B_law_c24 K n xs qo N r c x4 w v L) ∧
    (¬ (xs x4.toNatClampNeg &&& 31) = 24 → r c (x4 + 7) w v L)))))))))))))))))))))))))
set_option maxHeartbeats 8000000 in
theorem k_law_23s {Γ : gT} {K : gK} {N b n qo : Nat} {xs : Nat → Int32} (C : gC Γ K "OneBearsLaw" cL_law 7 room_1) (hX : gScr Γ b n xs) (hl0 : Γ.l.stackTraces = false) (done : ∀ (c : Nat) (V : va_W) (pc : Nat) (ls : List (Nat × Value)), c ≤ 1200128 → decode cL_law pc = .ok (.ireturn, 1) → gJ Γ K c (4 * c) V pc ls [.int 1]) {r : Nat → Int32 → Wd → Wd → va_W → Prop} (hr : ∀ (c : Nat) (x4 : Int32) (w v : Wd) (L : va_W), c ≤ 1200128 → r c x4 w v L → gJ Γ K c (4 * c) (xL K w ++ (mL K v ++ L)) 23 [(0, .ref b), (1, .ref (xa K 0)), (2, .ref (ma K 0)), (3, .ref qo), (4, .int x4)] []) (c : Nat) (x4 : Int32) (w v : Wd) (L : va_W) (hi : c ≤ 1200128) (h : B_law_23s K n xs qo N r c x4 w v L) : gJ Γ K c (4 * c) (xL K w ++ (mL K v ++ L)) 23 [(0, .ref b), (1, .ref (xa K 0)), (2, .ref (ma K 0)), (3, .ref qo), (4, .int x4)] [] := by
  unfold B_law_23s at h
  refine g_iload C 4 rfl dL_law_23 ?_
  refine g_aload_n C 0 rfl dL_law_25 ?_
  refine g_slen C hX dL_law_26 ?_
  refine g_bipush C 7 (by decide) dL_law_27 ?_
  refine g_isub C dL_law_29 ?_
  refine g_icmp_gt C 1467 dL_law_30 (by decide) (fun hc => ?_) (fun hc => ?_)
  · refine g_iconst C 1 (by decide) dL_law_1467 ?_
    exact done c _ _ _ hi dL_law_1468
  replace h := h hc
  refine g_aload_n C 0 rfl dL_law_33 ?_
  refine g_iload C 4 rfl dL_law_34 ?_
  obtain ⟨hb, h⟩ := h
  refine g_sld C hX hb dL_law_36 ?_
  refine g_bipush C 31 (by decide) dL_law_37 ?_
  refine g_iand C dL_law_39 ?_
  by_cases hc0 : (xs x4.toNatClampNeg &&& 31) = 0
  · refine g_tableIn C 156 dL_law_40 (n := 0) (by rw [hc0]; decide) (by decide) (by decide) rfl (by decide) ?_
    exact k_law_c0 C hX hl0 done hr c x4 w v L hi (h.1 hc0)
  replace h := h.2 hc0
  by_cases hc1 : (xs x4.toNatClampNeg &&& 31) = 1
  · refine g_tableIn C 229 dL_law_40 (n := 1) (by rw [hc1]; decide) (by decide) (by decide) rfl (by decide) ?_
    exact k_law_c1 C hX hl0 done hr c x4 w v L hi (h.1 hc1)
  replace h := h.2 hc1
  by_cases hc2 : (xs x4.toNatClampNeg &&& 31) = 2
  · refine g_tableIn C 254 dL_law_40 (n := 2) (by rw [hc2]; decide) (by decide) (by decide) rfl (by decide) ?_
    exact k_law_c2 C hX hl0 done hr c x4 w v L hi (h.1 hc2)
  replace h := h.2 hc2
  by_cases hc3 : (xs x4.toNatClampNeg &&& 31) = 3
  · refine g_tableIn C 267 dL_law_40 (n := 3) (by rw [hc3]; decide) (by decide) (by decide) rfl (by decide) ?_
    exact k_law_c3 C hX hl0 done hr c x4 w v L hi (h.1 hc3)
  replace h := h.2 hc3
  by_cases hc4 : (xs x4.toNatClampNeg &&& 31) = 4
  · refine g_tableIn C 280 dL_law_40 (n := 4) (by rw [hc4]; decide) (by decide) (by decide) rfl (by decide) ?_
    exact k_law_c4 C hX hl0 done hr c x4 w v L hi (h.1 hc4)
  replace h := h.2 hc4
  by_cases hc5 : (xs x4.toNatClampNeg &&& 31) = 5
  · refine g_tableIn C 329 dL_law_40 (n := 5) (by rw [hc5]; decide) (by decide) (by decide) rfl (by decide) ?_
    exact k_law_c5 C hX hl0 done hr c x4 w v L hi (h.1 hc5)
  replace h := h.2 hc5
  by_cases hc6 : (xs x4.toNatClampNeg &&& 31) = 6
  · refine g_tableIn C 367 dL_law_40 (n := 6) (by rw [hc6]; decide) (by decide) (by decide) rfl (by decide) ?_
    exact k_law_c6 C hX hl0 done hr c x4 w v L hi (h.1 hc6)
  replace h := h.2 hc6
  by_cases hc7 : (xs x4.toNatClampNeg &&& 31) = 7
  · refine g_tableIn C 417 dL_law_40 (n := 7) (by rw [hc7]; decide) (by decide) (by decide) rfl (by decide) ?_
    exact k_law_c7 C hX hl0 done hr c x4 w v L hi (h.1 hc7)
  replace h := h.2 hc7
  by_cases hc8 : (xs x4.toNatClampNeg &&& 31) = 8
  · refine g_tableIn C 490 dL_law_40 (n := 8) (by rw [hc8]; decide) (by decide) (by decide) rfl (by decide) ?_
    exact k_law_c8 C hX hl0 done hr c x4 w v L hi (h.1 hc8)
  replace h := h.2 hc8
  by_cases hc9 : (xs x4.toNatClampNeg &&& 31) = 9
  · refine g_tableIn C 527 dL_law_40 (n := 9) (by rw [hc9]; decide) (by decide) (by decide) rfl (by decide) ?_
    exact k_law_c9 C hX hl0 done hr c x4 w v L hi (h.1 hc9)
  replace h := h.2 hc9
  by_cases hc10 : (xs x4.toNatClampNeg &&& 31) = 10
  · refine g_tableIn C 564 dL_law_40 (n := 10) (by rw [hc10]; decide) (by decide) (by decide) rfl (by decide) ?_
    exact k_law_c10 C hX hl0 done hr c x4 w v L hi (h.1 hc10)
  replace h := h.2 hc10
  by_cases hc11 : (xs x4.toNatClampNeg &&& 31) = 11
  · refine g_tableIn C 589 dL_law_40 (n := 11) (by rw [hc11]; decide) (by decide) (by decide) rfl (by decide) ?_
    exact k_law_c11 C hX hl0 done hr c x4 w v L hi (h.1 hc11)
  replace h := h.2 hc11
  by_cases hc12 : (xs x4.toNatClampNeg &&& 31) = 12
  · refine g_tableIn C 638 dL_law_40 (n := 12) (by rw [hc12]; decide) (by decide) (by decide) rfl (by decide) ?_
    exact k_law_c12 C hX hl0 done hr c x4 w v L hi (h.1 hc12)
  replace h := h.2 hc12
  by_cases hc13 : (xs x4.toNatClampNeg &&& 31) = 13
  · refine g_tableIn C 718 dL_law_40 (n := 13) (by rw [hc13]; decide) (by decide) (by decide) rfl (by decide) ?_
    exact k_law_c13 C hX hl0 done hr c x4 w v L hi (h.1 hc13)
  replace h := h.2 hc13
  by_cases hc14 : (xs x4.toNatClampNeg &&& 31) = 14
  · refine g_tableIn C 825 dL_law_40 (n := 14) (by rw [hc14]; decide) (by decide) (by decide) rfl (by decide) ?_
    exact k_law_c14 C hX hl0 done hr c x4 w v L hi (h.1 hc14)
  replace h := h.2 hc14
  by_cases hc15 : (xs x4.toNatClampNeg &&& 31) = 15
  · refine g_tableIn C 918 dL_law_40 (n := 15) (by rw [hc15]; decide) (by decide) (by decide) rfl (by decide) ?_
    exact k_law_c15 C hX hl0 done hr c x4 w v L hi (h.1 hc15)
  replace h := h.2 hc15
  by_cases hc16 : (xs x4.toNatClampNeg &&& 31) = 16
  · refine g_tableIn C 944 dL_law_40 (n := 16) (by rw [hc16]; decide) (by decide) (by decide) rfl (by decide) ?_
    exact k_law_c16 C hX hl0 done hr c x4 w v L hi (h.1 hc16)
  replace h := h.2 hc16
  by_cases hc17 : (xs x4.toNatClampNeg &&& 31) = 17
  · refine g_tableIn C 981 dL_law_40 (n := 17) (by rw [hc17]; decide) (by decide) (by decide) rfl (by decide) ?_
    exact k_law_c17 C hX hl0 done hr c x4 w v L hi (h.1 hc17)
  replace h := h.2 hc17
  by_cases hc18 : (xs x4.toNatClampNeg &&& 31) = 18
  · refine g_tableIn C 1030 dL_law_40 (n := 18) (by rw [hc18]; decide) (by decide) (by decide) rfl (by decide) ?_
    exact k_law_c18 C hX hl0 done hr c x4 w v L hi (h.1 hc18)
  replace h := h.2 hc18
  by_cases hc19 : (xs x4.toNatClampNeg &&& 31) = 19
  · refine g_tableIn C 1087 dL_law_40 (n := 19) (by rw [hc19]; decide) (by decide) (by decide) rfl (by decide) ?_
    exact k_law_c19 C hX hl0 done hr c x4 w v L hi (h.1 hc19)
  replace h := h.2 hc19
  by_cases hc20 : (xs x4.toNatClampNeg &&& 31) = 20
  · refine g_tableIn C 1168 dL_law_40 (n := 20) (by rw [hc20]; decide) (by decide) (by decide) rfl (by decide) ?_
    exact k_law_c20 C hX hl0 done hr c x4 w v L hi (h.1 hc20)
  replace h := h.2 hc20
  by_cases hc21 : (xs x4.toNatClampNeg &&& 31) = 21
  · refine g_tableIn C 1205 dL_law_40 (n := 21) (by rw [hc21]; decide) (by decide) (by decide) rfl (by decide) ?_
    exact k_law_c21 C hX hl0 done hr c x4 w v L hi (h.1 hc21)
  replace h := h.2 hc21
  by_cases hc22 : (xs x4.toNatClampNeg &&& 31) = 22
  · refine g_tableIn C 1286 dL_law_40 (n := 22) (by rw [hc22]; decide) (by decide) (by decide) rfl (by decide) ?_
    exact k_law_c22 C hX hl0 done hr c x4 w v L hi (h.1 hc22)
  replace h := h.2 hc22
  by_cases hc23 : (xs x4.toNatClampNeg &&& 31) = 23
  · refine g_tableIn C 1367 dL_law_40 (n := 23) (by rw [hc23]; decide) (by decide) (by decide) rfl (by decide) ?_
    exact k_law_c23 C hX hl0 done hr c x4 w v L hi (h.1 hc23)
  replace h := h.2 hc23
  by_cases hc24 : (xs x4.toNatClampNeg &&& 31) = 24
  · refine g_tableIn C 1436 dL_law_40 (n := 24) (by rw [hc24]; decide) (by decide) (by decide) rfl (by decide) ?_
    exact k_law_c24 C hX hl0 done hr c x4 w v L hi (h.1 hc24)
  replace h := h.2 hc24
  have n0 := lv_neT hc0 (a := 0) (by decide)
  have n1 := lv_neT hc1 (a := 1) (by decide)
  have n2 := lv_neT hc2 (a := 2) (by decide)
  have n3 := lv_neT hc3 (a := 3) (by decide)
  have n4 := lv_neT hc4 (a := 4) (by decide)
  have n5 := lv_neT hc5 (a := 5) (by decide)
  have n6 := lv_neT hc6 (a := 6) (by decide)
  have n7 := lv_neT hc7 (a := 7) (by decide)
  have n8 := lv_neT hc8 (a := 8) (by decide)
  have n9 := lv_neT hc9 (a := 9) (by decide)
  have n10 := lv_neT hc10 (a := 10) (by decide)
  have n11 := lv_neT hc11 (a := 11) (by decide)
  have n12 := lv_neT hc12 (a := 12) (by decide)
  have n13 := lv_neT hc13 (a := 13) (by decide)
  have n14 := lv_neT hc14 (a := 14) (by decide)
  have n15 := lv_neT hc15 (a := 15) (by decide)
  have n16 := lv_neT hc16 (a := 16) (by decide)
  have n17 := lv_neT hc17 (a := 17) (by decide)
  have n18 := lv_neT hc18 (a := 18) (by decide)
  have n19 := lv_neT hc19 (a := 19) (by decide)
  have n20 := lv_neT hc20 (a := 20) (by decide)
  have n21 := lv_neT hc21 (a := 21) (by decide)
  have n22 := lv_neT hc22 (a := 22) (by decide)
  have n23 := lv_neT hc23 (a := 23) (by decide)
  have n24 := lv_neT hc24 (a := 24) (by decide)
  refine g_tableOut C 1461 dL_law_40 (by omega) (by decide) ?_
  refine g_iinc C 4 (x4 + 7) (lt := [(4, .int (x4 + 7)), (0, .ref b), (1, .ref (xa K 0)), (2, .ref (ma K 0)), (3, .ref qo)]) rfl rfl dL_law_1461 (by decide) rfl ?_
  refine g_goto C 23 dL_law_1464 (by decide) ?_
  refine g_sub [1, 2, 3, 4, 0] rfl ?_
  exact hr c (x4 + 7) w v L hi h
def B_law_23 (K : gK) (n : Nat) (xs : Nat → Int32) (qo N : Nat) : Nat → Nat → Int32 → Wd → Wd → va_W → Prop
  | 0, _, _, _, _, _ => False
  | k + 1, c, x4, w, v, L => B_law_23s K n xs qo N (B_law_23 K n xs qo N k) c x4 w v L
theorem k_law_23 {Γ : gT} {K : gK} {N b n qo : Nat} {xs : Nat → Int32} (C : gC Γ K "OneBearsLaw" cL_law 7 room_1) (hX : gScr Γ b n xs) (hl0 : Γ.l.stackTraces = false) (done : ∀ (c : Nat) (V : va_W) (pc : Nat) (ls : List (Nat × Value)), c ≤ 1200128 → decode cL_law pc = .ok (.ireturn, 1) → gJ Γ K c (4 * c) V pc ls [.int 1]) : ∀ (k c : Nat) (x4 : Int32) (w v : Wd) (L : va_W), c ≤ 1200128 → B_law_23 K n xs qo N k c x4 w v L → gJ Γ K c (4 * c) (xL K w ++ (mL K v ++ L)) 23 [(0, .ref b), (1, .ref (xa K 0)), (2, .ref (ma K 0)), (3, .ref qo), (4, .int x4)] [] := by
  intro k
  induction k with
  | zero => intro c x4 w v L hi h; exact h.elim
  | succ k ih => intro c x4 w v L hi h; exact k_law_23s C hX hl0 done ih c x4 w v L hi h
